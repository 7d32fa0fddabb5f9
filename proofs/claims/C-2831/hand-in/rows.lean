section
/-! rows taken from the kit (PURE-ROWS) -/
theorem pk_us {f : Nat → Int32} {k : Nat} {x : Int32} : upd f k x k = x := if_pos rfl
theorem pk_un {f : Nat → Int32} {k j : Nat} {x : Int32} (h : j ≠ k) : upd f k x j = f j := if_neg h
theorem pk_sub {a b : Nat} (h : b ≤ a) : nI a - nI b = nI (a - b) := by
  obtain ⟨c, rfl⟩ : ∃ c, a = c + b := ⟨a - b, by omega⟩
  rw [← nI_add, Int32.add_sub_cancel, Nat.add_sub_cancel]
theorem pk_m1 (n : Nat) : nI (n + 1) + (-1) = nI n := by
  rw [← nI_1, Int32.add_assoc, show (1 : Int32) + (-1) = 0 from rfl, Int32.add_zero]
theorem pk_mul (a b : Nat) : nI a * nI b = nI (a * b) := (Int32.ofNat_mul a b).symm
theorem pk_div {a d : Nat} (ha : a < 2 ^ 31) (h0 : 0 < d) (hd : d < 2 ^ 31) : nI a / nI d = nI (a / d) := by
  apply Int32.toInt_inj.mp
  rw [lg_idiv_nonneg (by rw [nI_toInt ha]; omega) (by rw [nI_toInt hd]; omega), nI_toInt ha, nI_toInt hd, nI_toInt (Nat.lt_of_le_of_lt (Nat.div_le_self a d) ha)]
  first | rfl | exact (Int.natCast_ediv _ _).symm
theorem pk_rem {a d : Nat} (ha : a < 2 ^ 31) (h0 : 0 < d) (hd : d < 2 ^ 31) : nI a - nI a / nI d * nI d = nI (a % d) := by
  rw [pk_div ha h0 hd, pk_mul, pk_sub (Nat.div_mul_le_self a d)]
  exact congrArg nI (by have := Nat.div_add_mod' a d; omega)
theorem pk_ix (x : Int32) {n : Nat} (hn : n < 2 ^ 31) : x < 0 ∨ nI n ≤ x ∨ ∃ j : Nat, j < n ∧ x = nI j := by
  by_cases h : x < 0
  · exact Or.inl h
  · obtain ⟨j, hj, rfl⟩ := nI_of h
    by_cases h2 : j < n
    · exact Or.inr (Or.inr ⟨j, h2, rfl⟩)
    · exact Or.inr (Or.inl (nI_le (by omega) hj))
theorem pk_le {x y : Int32} {A B : Prop} (a b : Nat) (f : a ≤ b → A) (g : b < a → B) (hx : x = nI a := by rfl) (hy : y = nI b := by rfl) (ha : a < 2 ^ 31 := by omega) (hb : b < 2 ^ 31 := by omega) : (x ≤ y → A) ∧ (¬ x ≤ y → B) := by
  subst hx hy
  rw [nI_leI ha hb]
  exact ⟨f, fun z => g (by omega)⟩
theorem pk_lt {x y : Int32} {A B : Prop} (a b : Nat) (f : a < b → A) (g : b ≤ a → B) (hx : x = nI a := by rfl) (hy : y = nI b := by rfl) (ha : a < 2 ^ 31 := by omega) (hb : b < 2 ^ 31 := by omega) : (x < y → A) ∧ (¬ x < y → B) := by
  subst hx hy
  rw [nI_ltI ha hb]
  exact ⟨f, fun z => g (by omega)⟩
theorem pk_eq {x y : Int32} {A B : Prop} (a b : Nat) (f : a = b → A) (g : a ≠ b → B) (hx : x = nI a := by rfl) (hy : y = nI b := by rfl) (ha : a < 2 ^ 31 := by omega) (hb : b < 2 ^ 31 := by omega) : (x = y → A) ∧ (¬ x = y → B) := by
  subst hx hy
  rw [nI_eq ha hb]
  exact ⟨f, g⟩
theorem pk_in {x : Int32} (n N : Nat) (h : n < N) (hx : x = nI n := by rfl) (hN : N < 2 ^ 31 := by omega) : vp_in x N := by
  subst hx
  exact vp_in_nI h hN
theorem pk_cl {x : Int32} (n : Nat) (hx : x = nI n := by rfl) (h : n < 2 ^ 31 := by omega) : x.toNatClampNeg = n := by
  subst hx
  exact nI_clamp h
theorem pk_tn {n : Nat} (h : n < 2 ^ 32) : (nI n).toBitVec.toNat = n := Nat.mod_eq_of_lt h
theorem pk_and (x : Int32) {m : Int32} (k : Nat) (hm : m.toBitVec.toNat = 2 ^ k - 1) : x &&& m = nI (x.toBitVec.toNat % 2 ^ k) := by
  apply Int32.toBitVec_inj.mp
  apply BitVec.eq_of_toNat_eq
  rw [Int32.toBitVec_and, BitVec.toNat_and, hm, Nat.and_two_pow_sub_one_eq_mod]
  show _ = (BitVec.ofNat 32 _).toNat
  rw [BitVec.toNat_ofNat]
  exact (Nat.mod_eq_of_lt (Nat.lt_of_le_of_lt (Nat.mod_le _ _) x.toBitVec.isLt)).symm
theorem pk_andN {n : Nat} (h : n < 2 ^ 32) {m : Int32} (k : Nat) (hm : m.toBitVec.toNat = 2 ^ k - 1) : nI n &&& m = nI (n % 2 ^ k) := by
  rw [pk_and _ k hm, pk_tn h]
theorem pk_andE (x : Int32) {m : Int32} (k : Nat) (hm : m.toBitVec.toNat = 2 ^ k - 1) : ∃ j : Nat, j < 2 ^ k ∧ x &&& m = nI j := ⟨_, Nat.mod_lt _ (Nat.two_pow_pos k), pk_and x k hm⟩
theorem pk_shr (a s : Int32) (k : Nat) (hs : (s.toBitVec.smod 32).toNat = k) : (a >>> s).toInt = a.toInt >>> k := by
  show (a.toBitVec.sshiftRight (s.toBitVec.smod 32).toNat).toInt = _
  rw [hs, BitVec.toInt_sshiftRight]
  rfl
theorem pk_shrN {n : Nat} (h : n < 2 ^ 31) (s : Int32) (k : Nat) (hs : (s.toBitVec.smod 32).toNat = k) : nI n >>> s = nI (n / 2 ^ k) := by
  apply Int32.toInt_inj.mp
  have h2 : n / 2 ^ k ≤ n := Nat.div_le_self _ _
  rw [pk_shr _ _ k hs, nI_toInt h, nI_toInt (by omega), Int.shiftRight_eq_div_pow]
  rfl
theorem pk_vb (z : Int32) : vp_nar .byte z.toInt8.toInt32 = z.toInt8.toInt32 := by rw [vp_nar_byte]; simp
end
section
/-! bits of small masks; cells -/
theorem ar_bit : ∀ p, p < 128 → ∀ d, d < 7 → ((((nI p) >>> (nI d &&& 31)) &&& 1) = 0 ↔ p.testBit d = false) := by decide +kernel
theorem ar_or : ∀ p, p < 128 → ∀ d, d < 7 → (nI p ||| ((1 : Int32) <<< (nI d &&& 31))) = nI (p ||| 2 ^ d) := by decide +kernel
theorem ar_clr : ∀ p, p < 128 → ∀ d, d < 7 → (nI p &&& (((1 : Int32) <<< (nI d &&& 31)) ^^^ (-1))) = nI (p &&& (127 ^^^ 2 ^ d)) := by decide +kernel
theorem ar_i8 : ∀ p, p < 128 → (nI p).toInt8.toInt32 = nI p := by decide +kernel
theorem ar_or_lt : ∀ p, p < 128 → ∀ d, d < 7 → p ||| 2 ^ d < 128 := by decide +kernel
theorem ar_or_lt6 : ∀ p, p < 64 → ∀ d, d < 6 → p ||| 2 ^ d < 64 := by decide +kernel
theorem ar_clr_lt : ∀ p, p < 128 → ∀ d, d < 7 → p &&& (127 ^^^ 2 ^ d) < 128 := by decide +kernel
theorem ar_clr_lt6 : ∀ p, p < 64 → ∀ d, d < 6 → p &&& (127 ^^^ 2 ^ d) < 64 := by decide +kernel
theorem ar_or_tb (p d e : Nat) : (p ||| 2 ^ d).testBit e = (p.testBit e || decide (d = e)) := by
  rw [Nat.testBit_or, Nat.testBit_two_pow]
theorem ar_clr_tb : ∀ p, p < 128 → ∀ d, d < 7 → ∀ e, e < 7 → (p &&& (127 ^^^ 2 ^ d)).testBit e = (p.testBit e && !decide (d = e)) := by decide +kernel
/-- a mask is what its bits make -/
theorem ar_bits_ext : ∀ p, p < 128 → (List.range 7).foldl (fun s d => if p.testBit d then s ||| 2 ^ d else s) 0 = p := by decide +kernel
theorem ar_nar {p : Nat} (h : p < 128) : vp_nar .byte (nI p) = nI p := by rw [vp_nar_byte, ar_i8 p h]
theorem ar_nar8 {p : Nat} (h : p < 128) : vp_nar .byte (nI p).toInt8.toInt32 = nI p := by rw [ar_i8 p h, ar_nar h]
theorem ar_narM : vp_nar .byte (-1) = -1 := by rw [vp_nar_byte]; decide +kernel
theorem ar_m18 : (-1 : Int32).toInt8.toInt32 = -1 := by decide +kernel
theorem ar_nar0 : vp_nar .byte 0 = 0 := by rw [vp_nar_byte]; decide +kernel
theorem ar_b1 : vp_nar .boolean 1 = 1 := rfl
theorem ar_b0 : vp_nar .boolean 0 = 0 := rfl
theorem ar_n1 : nI 1 = 1 := rfl
theorem ar_n2 : nI 2 = 2 := rfl
theorem ar_c7 (c d : Nat) : nI c * 7 + nI d = nI (7 * c + d) := by
  rw [show (7 : Int32) = nI 7 from rfl, pk_mul, nI_add, Nat.mul_comm c 7]
theorem ar_7c (c d : Nat) : 7 * nI c + nI d = nI (7 * c + d) := by
  rw [show (7 : Int32) = nI 7 from rfl, pk_mul, nI_add]
theorem ar_c6 (c d : Nat) : nI c * 6 + nI d = nI (6 * c + d) := by
  rw [show (6 : Int32) = nI 6 from rfl, pk_mul, nI_add, Nat.mul_comm c 6]
theorem ar_6c (c d : Nat) : 6 * nI c + nI d = nI (6 * c + d) := by
  rw [show (6 : Int32) = nI 6 from rfl, pk_mul, nI_add]
theorem ar_m1lt : (-1 : Int32) < 0 := by decide
theorem ar_m1le : ¬ (0 : Int32) ≤ -1 := by decide
/-- one less than a number from 0 to 6 -/
theorem ar_pm (j : Nat) : nI j + (-1) + 1 = nI j := by
  rw [Int32.add_assoc, show (-1 : Int32) + 1 = 0 from rfl, Int32.add_zero]
theorem ar_pinj {a b : Nat} (ha : a < 2 ^ 31) (hb : b < 2 ^ 31) : nI a + (-1) = nI b + (-1) ↔ a = b := by
  constructor
  · intro h
    have h2 := congrArg (· + 1) h
    simp only [ar_pm] at h2
    exact (nI_eq ha hb).mp h2
  · rintro rfl; rfl
/-- an int that is a circuit -/
theorem ar_01 (x : Int32) : (∃ c, c < 2 ∧ x = nI c) ∨ (¬ x = 0 ∧ ¬ x = 1) := by
  by_cases h : x = 0
  · exact Or.inl ⟨0, by decide, h⟩
  · by_cases h1 : x = 1
    · exact Or.inl ⟨1, by decide, h1⟩
    · exact Or.inr ⟨h, h1⟩
end
section
/-! devices: type, gate (0 for type 2), lesser end, greater end; lists of them -/
abbrev MtDV : Type := Nat × Nat × Nat × Nat
def mt_nrm (t g x y : Nat) : MtDV := (t, (if t = 2 then 0 else g), min x y, max x y)
def mt_mv (f : Nat → Nat) (e : MtDV) : MtDV := mt_nrm e.1 (f e.2.1) (f e.2.2.1) (f e.2.2.2)
def mt_ok (e : MtDV) : Prop := e.1 < 3 ∧ e.2.1 < 6 ∧ e.2.2.1 ≤ e.2.2.2 ∧ e.2.2.2 < 6 ∧ (e.1 = 2 → e.2.1 = 0)
def mt_PM (f : Nat → Nat) : Prop := (∀ i, i < 6 → f i < 6) ∧ (∀ i, i < 6 → ∀ j, j < 6 → f i = f j → i = j) ∧ (∀ j, j < 6 → ∃ i, i < 6 ∧ f i = j)
def mt_L (p : Nat) (D : Nat → MtDV) : List MtDV := ((List.range 7).filter (fun d => p.testBit d)).map D
theorem mt_nrm_ok {t g x y : Nat} (ht : t < 3) (hg : g < 6) (hx : x < 6) (hy : y < 6) : mt_ok (mt_nrm t g x y) := by
  refine ⟨ht, ?_, ?_, ?_, ?_⟩
  · show (if t = 2 then 0 else g) < 6
    split <;> omega
  · show min x y ≤ max x y
    omega
  · show max x y < 6
    omega
  · intro h
    show (if t = 2 then 0 else g) = 0
    exact if_pos h
theorem mt_nrm_id {e : MtDV} (h : mt_ok e) : mt_nrm e.1 e.2.1 e.2.2.1 e.2.2.2 = e := by
  obtain ⟨t, g, x, y⟩ := e
  obtain ⟨h1, h2, h3, h4, h5⟩ := h
  dsimp only at h1 h2 h3 h4 h5 ⊢
  unfold mt_nrm
  rw [Nat.min_eq_left h3, Nat.max_eq_right h3]
  by_cases ht : t = 2
  · rw [if_pos ht, h5 ht]
  · rw [if_neg ht]
theorem mt_nrm_comm (t g x y : Nat) : mt_nrm t g x y = mt_nrm t g y x := by
  unfold mt_nrm
  rw [Nat.min_comm, Nat.max_comm]
theorem mt_nrm_g2 (g g' x y : Nat) : mt_nrm 2 g x y = mt_nrm 2 g' x y := rfl
theorem mt_mv_nrm (f : Nat → Nat) (t g x y : Nat) : mt_mv f (mt_nrm t g x y) = mt_nrm t (f g) (f x) (f y) := by
  unfold mt_mv
  show mt_nrm t (f (if t = 2 then 0 else g)) (f (min x y)) (f (max x y)) = _
  have e : ∀ a b, mt_nrm t (f (if t = 2 then 0 else g)) a b = mt_nrm t (f g) a b := by
    intro a b
    by_cases ht : t = 2
    · subst ht; rfl
    · rw [if_neg ht]
  rw [e]
  by_cases h : x ≤ y
  · rw [Nat.min_eq_left h, Nat.max_eq_right h]
  · rw [Nat.min_eq_right (by omega), Nat.max_eq_left (by omega), mt_nrm_comm]
theorem mt_mv_ok {f : Nat → Nat} (hf : mt_PM f) {e : MtDV} (h : mt_ok e) : mt_ok (mt_mv f e) :=
  mt_nrm_ok h.1 (hf.1 _ h.2.1) (hf.1 _ (Nat.lt_of_le_of_lt h.2.2.1 h.2.2.2.1)) (hf.1 _ h.2.2.2.1)
theorem mt_nrm_eq {t g x y t' g' x' y' : Nat} : mt_nrm t g x y = mt_nrm t' g' x' y' ↔ t = t' ∧ (t = 2 ∨ g = g') ∧ ((x = x' ∧ y = y') ∨ (x = y' ∧ y = x')) := by
  unfold mt_nrm
  rw [Prod.mk.injEq, Prod.mk.injEq, Prod.mk.injEq]
  constructor
  · rintro ⟨rfl, h2, h3, h4⟩
    refine ⟨rfl, ?_, by omega⟩
    by_cases ht : t = 2
    · exact Or.inl ht
    · rw [if_neg ht, if_neg ht] at h2
      exact Or.inr h2
  · rintro ⟨rfl, h2, h3⟩
    refine ⟨rfl, ?_, by omega, by omega⟩
    by_cases ht : t = 2
    · rw [if_pos ht, if_pos ht]
    · rw [if_neg ht, if_neg ht]
      exact h2.resolve_left ht
theorem mt_mv_inj {f : Nat → Nat} (hf : mt_PM f) {e e' : MtDV} (h : mt_ok e) (h' : mt_ok e') (he : mt_mv f e = mt_mv f e') : e = e' := by
  rw [← mt_nrm_id h, ← mt_nrm_id h', mt_nrm_eq]
  unfold mt_mv at he
  rw [mt_nrm_eq] at he
  obtain ⟨a, b, c⟩ := he
  have k := hf.2.1
  have hx := Nat.lt_of_le_of_lt h.2.2.1 h.2.2.2.1
  have hx' := Nat.lt_of_le_of_lt h'.2.2.1 h'.2.2.2.1
  refine ⟨a, ?_, ?_⟩
  · exact b.imp id (k _ h.2.1 _ h'.2.1)
  · exact c.imp (fun z => ⟨k _ hx _ hx' z.1, k _ h.2.2.2.1 _ h'.2.2.2.1 z.2⟩) (fun z => ⟨k _ hx _ h'.2.2.2.1 z.1, k _ h.2.2.2.1 _ hx' z.2⟩)
theorem mt_mv_surj {f : Nat → Nat} (hf : mt_PM f) {e : MtDV} (h : mt_ok e) : ∃ e', mt_ok e' ∧ mt_mv f e' = e := by
  obtain ⟨g, hg, eg⟩ := hf.2.2 _ h.2.1
  obtain ⟨x, hx, ex⟩ := hf.2.2 _ (Nat.lt_of_le_of_lt h.2.2.1 h.2.2.2.1)
  obtain ⟨y, hy, ey⟩ := hf.2.2 _ h.2.2.2.1
  refine ⟨mt_nrm e.1 g x y, mt_nrm_ok h.1 hg hx hy, ?_⟩
  rw [mt_mv_nrm, eg, ex, ey, mt_nrm_id h]
/-- equal counts of all that is in B, and equal lengths: the same devices -/
theorem mt_pc {A B : List MtDV} (h : ∀ e, e ∈ B → A.count e = B.count e) (hl : A.length = B.length) : A.Perm B := by
  have hp : (A.filter (fun e => B.contains e)).Perm B := by
    rw [List.perm_iff_count]
    intro e
    by_cases he : e ∈ B
    · rw [List.count_filter (by simpa using he)]
      exact h e he
    · rw [List.count_eq_zero_of_not_mem he, List.count_eq_zero]
      intro hm
      have hm2 := (List.mem_filter.mp hm).2
      exact he (by simpa using hm2)
  have hl2 := hp.length_eq
  have hall : ∀ a ∈ A, B.contains a = true := by
    rw [← List.length_filter_eq_length_iff]
    exact hl2.trans hl.symm
  have hs : A.filter (fun e => B.contains e) = A := List.filter_eq_self.mpr hall
  rwa [hs] at hp
theorem mt_count_mv {f : Nat → Nat} (hf : mt_PM f) {A : List MtDV} (hA : ∀ e, e ∈ A → mt_ok e) {e : MtDV} (he : mt_ok e) : (A.map (mt_mv f)).count (mt_mv f e) = A.count e := by
  rw [List.count_eq_countP, List.countP_map, List.count_eq_countP]
  apply List.countP_congr
  intro x hx
  show (mt_mv f x == mt_mv f e) = true ↔ (x == e) = true
  rw [beq_iff_eq, beq_iff_eq]
  exact ⟨fun z => mt_mv_inj hf (hA x hx) he z, fun z => by rw [z]⟩
theorem mt_perm_iff {f : Nat → Nat} (hf : mt_PM f) {A B : List MtDV} (hA : ∀ e, e ∈ A → mt_ok e) (hB : ∀ e, e ∈ B → mt_ok e) : (∀ e, mt_ok e → A.count e = B.count (mt_mv f e)) ↔ (A.map (mt_mv f)).Perm B := by
  constructor
  · intro h
    rw [List.perm_iff_count]
    intro e
    by_cases he : mt_ok e
    · obtain ⟨e', h1, rfl⟩ := mt_mv_surj hf he
      rw [mt_count_mv hf hA h1]
      exact h e' h1
    · rw [List.count_eq_zero.mpr (fun z => he (hB e z)), List.count_eq_zero]
      intro z
      obtain ⟨x, hx, rfl⟩ := List.mem_map.mp z
      exact he (mt_mv_ok hf (hA x hx))
  · intro h e he
    rw [← h.count_eq, mt_count_mv hf hA he]
theorem mt_L_mem {p : Nat} {D : Nat → MtDV} {e : MtDV} : e ∈ mt_L p D ↔ ∃ d, d < 7 ∧ p.testBit d = true ∧ D d = e := by
  unfold mt_L
  rw [List.mem_map]
  constructor
  · rintro ⟨d, hd, rfl⟩
    rw [List.mem_filter, List.mem_range] at hd
    exact ⟨d, hd.1, hd.2, rfl⟩
  · rintro ⟨d, h1, h2, rfl⟩
    exact ⟨d, List.mem_filter.mpr ⟨List.mem_range.mpr h1, h2⟩, rfl⟩
theorem mt_L_ok {p : Nat} {D : Nat → MtDV} (h : ∀ d, d < 7 → mt_ok (D d)) : ∀ e, e ∈ mt_L p D → mt_ok e := by
  intro e he
  obtain ⟨d, hd, _, rfl⟩ := mt_L_mem.mp he
  exact h d hd
theorem mt_L_countP (p : Nat) (D : Nat → MtDV) (q : MtDV → Bool) : (mt_L p D).countP q = (List.range 7).countP (fun d => p.testBit d && q (D d)) := by
  unfold mt_L
  rw [List.countP_map, List.countP_filter]
  apply List.countP_congr
  intro x _
  show (q (D x) && p.testBit x) = true ↔ _
  rw [Bool.and_comm]
theorem mt_L_count (p : Nat) (D : Nat → MtDV) (e : MtDV) : (mt_L p D).count e = (List.range 7).countP (fun d => p.testBit d && D d == e) := by
  rw [List.count_eq_countP, mt_L_countP]
theorem mt_L_length (p : Nat) (D : Nat → MtDV) : (mt_L p D).length = (List.range 7).countP (fun d => p.testBit d) := by
  unfold mt_L
  rw [List.length_map, List.countP_eq_length_filter]
/-! agreement at a level -/
def mt_agAt (A B : List MtDV) (f : Nat → Nat) (t x k : Nat) : Bool :=
  (List.range ((if t = 2 then 0 else k) + 1)).all (fun g => decide (A.count (mt_nrm t g x k) = B.count (mt_nrm t (f g) (f x) (f k)))) && (List.range k).all (fun y => decide (t = 2) || decide (A.count (mt_nrm t k x y) = B.count (mt_nrm t (f k) (f x) (f y))))
def mt_ag (A B : List MtDV) (f : Nat → Nat) (k : Nat) : Bool :=
  (List.range 3).all (fun t => (List.range (k + 1)).all (fun x => mt_agAt A B f t x k))
theorem mt_agAt_iff {A B : List MtDV} {f : Nat → Nat} {t x k : Nat} : mt_agAt A B f t x k = true ↔ (∀ g, g ≤ (if t = 2 then 0 else k) → A.count (mt_nrm t g x k) = B.count (mt_nrm t (f g) (f x) (f k))) ∧ (t ≠ 2 → ∀ y, y < k → A.count (mt_nrm t k x y) = B.count (mt_nrm t (f k) (f x) (f y))) := by
  unfold mt_agAt
  rw [Bool.and_eq_true, List.all_eq_true, List.all_eq_true]
  constructor
  · rintro ⟨h1, h2⟩
    refine ⟨fun g hg => ?_, fun ht y hy => ?_⟩
    · exact of_decide_eq_true (h1 g (List.mem_range.mpr (by omega)))
    · have h := h2 y (List.mem_range.mpr hy)
      rw [Bool.or_eq_true, decide_eq_true_iff, decide_eq_true_iff] at h
      exact h.resolve_left ht
  · rintro ⟨h1, h2⟩
    refine ⟨fun g hg => ?_, fun y hy => ?_⟩
    · exact decide_eq_true (h1 g (by have := List.mem_range.mp hg; omega))
    · rw [Bool.or_eq_true, decide_eq_true_iff, decide_eq_true_iff]
      by_cases ht : t = 2
      · exact Or.inl ht
      · exact Or.inr (h2 ht y (List.mem_range.mp hy))
theorem mt_ag_iff {A B : List MtDV} {f : Nat → Nat} {k : Nat} : mt_ag A B f k = true ↔ ∀ t, t < 3 → ∀ x, x ≤ k → mt_agAt A B f t x k = true := by
  unfold mt_ag
  rw [List.all_eq_true]
  constructor
  · intro h t ht x hx
    have h1 := h t (List.mem_range.mpr ht)
    rw [List.all_eq_true] at h1
    exact h1 x (List.mem_range.mpr (by omega))
  · intro h t ht
    rw [List.all_eq_true]
    intro x hx
    exact h t (List.mem_range.mp ht) x (by have := List.mem_range.mp hx; omega)
theorem mt_agAt_congr {A B : List MtDV} {f f' : Nat → Nat} {t x k : Nat} (hx : x ≤ k) (h : ∀ i, i ≤ k → f i = f' i) : mt_agAt A B f t x k = mt_agAt A B f' t x k := by
  have e : mt_agAt A B f t x k = true ↔ mt_agAt A B f' t x k = true := by
    rw [mt_agAt_iff, mt_agAt_iff]
    have hb : ∀ g, g ≤ (if t = 2 then 0 else k) → g ≤ k := by
      intro g hg
      split at hg <;> omega
    constructor
    · rintro ⟨h1, h2⟩
      refine ⟨fun g hg => ?_, fun ht y hy => ?_⟩
      · rw [h1 g hg, h g (hb g hg), h x hx, h k (Nat.le_refl k)]
      · rw [h2 ht y hy, h y (by omega), h x hx, h k (Nat.le_refl k)]
    · rintro ⟨h1, h2⟩
      refine ⟨fun g hg => ?_, fun ht y hy => ?_⟩
      · rw [h1 g hg, h g (hb g hg), h x hx, h k (Nat.le_refl k)]
      · rw [h2 ht y hy, h y (by omega), h x hx, h k (Nat.le_refl k)]
  exact Bool.eq_iff_iff.mpr e
theorem mt_ag_congr {A B : List MtDV} {f f' : Nat → Nat} {k : Nat} (h : ∀ i, i ≤ k → f i = f' i) : mt_ag A B f k = mt_ag A B f' k := by
  apply Bool.eq_iff_iff.mpr
  rw [mt_ag_iff, mt_ag_iff]
  constructor
  · intro z t ht x hx
    rw [← mt_agAt_congr hx h]
    exact z t ht x hx
  · intro z t ht x hx
    rw [mt_agAt_congr hx h]
    exact z t ht x hx
theorem mt_ag_all {f : Nat → Nat} {A B : List MtDV} : (∀ k, k < 6 → mt_ag A B f k = true) ↔ (∀ e, mt_ok e → A.count e = B.count (mt_mv f e)) := by
  constructor
  · intro h e he
    obtain ⟨h1, h2, h3, h4, h5⟩ := he
    have hid := mt_nrm_id ⟨h1, h2, h3, h4, h5⟩
    have hmv : mt_mv f e = mt_nrm e.1 (f e.2.1) (f e.2.2.1) (f e.2.2.2) := rfl
    by_cases ht : e.1 = 2
    · have h6 := (mt_agAt_iff.mp (mt_ag_iff.mp (h e.2.2.2 h4) e.1 h1 e.2.2.1 h3)).1 e.2.1 (by rw [h5 ht]; omega)
      rw [hid, ← hmv] at h6
      exact h6
    · by_cases hg : e.2.1 ≤ e.2.2.2
      · have h6 := (mt_agAt_iff.mp (mt_ag_iff.mp (h e.2.2.2 h4) e.1 h1 e.2.2.1 h3)).1 e.2.1 (by rw [if_neg ht]; exact hg)
        rw [hid, ← hmv] at h6
        exact h6
      · have h6 := (mt_agAt_iff.mp (mt_ag_iff.mp (h e.2.1 h2) e.1 h1 e.2.2.1 (by omega))).2 ht e.2.2.2 (by omega)
        rw [hid, ← hmv] at h6
        exact h6
  · intro h k hk
    rw [mt_ag_iff]
    intro t ht x hx
    rw [mt_agAt_iff]
    refine ⟨fun g hg => ?_, fun _ y hy => ?_⟩
    · have hg2 : g < 6 := by split at hg <;> omega
      rw [h _ (mt_nrm_ok ht hg2 (by omega) hk), mt_mv_nrm]
    · rw [h _ (mt_nrm_ok ht hk (by omega) (by omega)), mt_mv_nrm]
end
section
/-! marks -/
def mt_mix (a b : Int32) : Int32 := ((((a * 31) + b) + 17) * 1000003) ^^^ (((((a * 31) + b) + 17).toUInt32 >>> ((13 : Int32).toUInt32 &&& Int32.toUInt32 31)).toInt32)
def mt_aw (m : Nat → Int32) (e : MtDV) : Int32 := mt_mix (if e.1 = 2 then 0 else m e.2.1) (nI e.1)
/-- what device e adds to the mark of net i -/
def mt_con (m : Nat → Int32) (e : MtDV) (i : Nat) : Int32 :=
  (if i = e.2.2.1 then mt_mix (m e.2.2.2) (mt_aw m e) else 0) + (if i = e.2.2.2 then mt_mix (m e.2.2.1) (mt_aw m e) else 0) + (if e.1 ≠ 2 ∧ i = e.2.1 then mt_mix (m e.2.2.1 + m e.2.2.2) (mt_mix (m e.2.2.1 * m e.2.2.2) 99) else 0)
def mt_sum (f : MtDV → Int32) : List MtDV → Int32
  | [] => 0
  | e :: l => f e + mt_sum f l
def mt_step (A : List MtDV) (m : Nat → Int32) : Nat → Int32 := fun i => mt_mix (m i) 1 + mt_sum (fun e => mt_con m e i) A
def mt_mk (A : List MtDV) (nx : Nat → Int32) : Nat → Nat → Int32
  | 0 => fun i => mt_mix (nx i) 5
  | r + 1 => mt_step A (mt_mk A nx r)
theorem mt_sum_perm (f : MtDV → Int32) {A B : List MtDV} (h : A.Perm B) : mt_sum f A = mt_sum f B := by
  induction h with
  | nil => rfl
  | cons x _ ih => show f x + _ = f x + _; rw [ih]
  | swap x y l =>
    show f y + (f x + mt_sum f l) = f x + (f y + mt_sum f l)
    rw [← Int32.add_assoc, ← Int32.add_assoc, Int32.add_comm (f y) (f x)]
  | trans _ _ h1 h2 => rw [h1, h2]
theorem mt_sum_map (f : MtDV → Int32) (g : MtDV → MtDV) (A : List MtDV) : mt_sum f (A.map g) = mt_sum (fun e => f (g e)) A := by
  induction A with
  | nil => rfl
  | cons x l ih => show f (g x) + _ = f (g x) + _; rw [← ih]
theorem mt_sum_congr {f g : MtDV → Int32} {A : List MtDV} (h : ∀ e, e ∈ A → f e = g e) : mt_sum f A = mt_sum g A := by
  induction A with
  | nil => rfl
  | cons x l ih =>
    show f x + mt_sum f l = g x + mt_sum g l
    rw [h x List.mem_cons_self, ih (fun e he => h e (List.mem_cons_of_mem x he))]
theorem mt_if {c d : Prop} [Decidable c] [Decidable d] {a b z : Int32} (h : c ↔ d) (h2 : d → a = b) : (if c then a else z) = (if d then b else z) := by
  by_cases hd : d
  · rw [if_pos hd, if_pos (h.mpr hd), h2 hd]
  · rw [if_neg hd, if_neg (fun x => hd (h.mp x))]
theorem mt_con_mv {f : Nat → Nat} (hf : mt_PM f) {m m' : Nat → Int32} (hm : ∀ i, i < 6 → m i = m' (f i)) {e : MtDV} (he : mt_ok e) {i : Nat} (hi : i < 6) : mt_con m' (mt_mv f e) (f i) = mt_con m e i := by
  obtain ⟨t, g, x, y⟩ := e
  obtain ⟨h1, h2, h3, h4, h5⟩ := he
  dsimp only at h1 h2 h3 h4 h5
  have hx : x < 6 := by omega
  have ix : f i = f x ↔ i = x := ⟨hf.2.1 i hi x hx, fun z => by rw [z]⟩
  have iy : f i = f y ↔ i = y := ⟨hf.2.1 i hi y h4, fun z => by rw [z]⟩
  have ig : f i = f g ↔ i = g := ⟨hf.2.1 i hi g h2, fun z => by rw [z]⟩
  have ea : mt_aw m' (mt_mv f (t, g, x, y)) = mt_aw m (t, g, x, y) := by
    show mt_mix (if t = 2 then 0 else m' (if t = 2 then 0 else f g)) (nI t) = mt_mix (if t = 2 then 0 else m g) (nI t)
    by_cases ht : t = 2
    · rw [if_pos ht, if_pos ht]
    · rw [if_neg ht, if_neg ht, if_neg ht, hm g h2]
  unfold mt_con
  rw [ea]
  show (if f i = min (f x) (f y) then mt_mix (m' (max (f x) (f y))) (mt_aw m (t, g, x, y)) else 0) + (if f i = max (f x) (f y) then mt_mix (m' (min (f x) (f y))) (mt_aw m (t, g, x, y)) else 0) + (if t ≠ 2 ∧ f i = (if t = 2 then 0 else f g) then mt_mix (m' (min (f x) (f y)) + m' (max (f x) (f y))) (mt_mix (m' (min (f x) (f y)) * m' (max (f x) (f y))) 99) else 0) = (if i = x then mt_mix (m y) (mt_aw m (t, g, x, y)) else 0) + (if i = y then mt_mix (m x) (mt_aw m (t, g, x, y)) else 0) + (if t ≠ 2 ∧ i = g then mt_mix (m x + m y) (mt_mix (m x * m y) 99) else 0)
  have e3 : (t ≠ 2 ∧ f i = (if t = 2 then 0 else f g)) ↔ (t ≠ 2 ∧ i = g) := by
    constructor
    · rintro ⟨a, b⟩
      rw [if_neg a] at b
      exact ⟨a, ig.mp b⟩
    · rintro ⟨a, b⟩
      rw [if_neg a]
      exact ⟨a, ig.mpr b⟩
  have hmx := hm x hx
  have hmy := hm y h4
  by_cases hle : f x ≤ f y
  · rw [Nat.min_eq_left hle, Nat.max_eq_right hle, mt_if ix (b := mt_mix (m y) (mt_aw m (t, g, x, y))) (fun _ => by rw [hmy]), mt_if iy (b := mt_mix (m x) (mt_aw m (t, g, x, y))) (fun _ => by rw [hmx]), mt_if e3 (b := mt_mix (m x + m y) (mt_mix (m x * m y) 99)) (fun _ => by rw [hmx, hmy])]
  · have hge : f y ≤ f x := by omega
    rw [Nat.min_eq_right hge, Nat.max_eq_left hge, mt_if iy (b := mt_mix (m x) (mt_aw m (t, g, x, y))) (fun _ => by rw [hmx]), mt_if ix (b := mt_mix (m y) (mt_aw m (t, g, x, y))) (fun _ => by rw [hmy]), mt_if e3 (b := mt_mix (m x + m y) (mt_mix (m x * m y) 99)) (fun _ => by rw [hmx, hmy, Int32.add_comm (m' (f y)), Int32.mul_comm (m' (f y))])]
    rw [Int32.add_comm (if i = y then mt_mix (m x) (mt_aw m (t, g, x, y)) else 0)]
/-- the marks do not depend on how nets are numbered -/
theorem mt_mk_inv {f : Nat → Nat} (hf : mt_PM f) {A B : List MtDV} (hA : ∀ e, e ∈ A → mt_ok e) (hp : (A.map (mt_mv f)).Perm B) {n n' : Nat → Int32} (hn : ∀ i, i < 6 → n i = n' (f i)) : ∀ r i, i < 6 → mt_mk A n r i = mt_mk B n' r (f i) := by
  intro r
  induction r with
  | zero =>
    intro i hi
    show mt_mix (n i) 5 = mt_mix (n' (f i)) 5
    rw [hn i hi]
  | succ r ih =>
    intro i hi
    show mt_mix (mt_mk A n r i) 1 + mt_sum (fun e => mt_con (mt_mk A n r) e i) A = mt_mix (mt_mk B n' r (f i)) 1 + mt_sum (fun e => mt_con (mt_mk B n' r) e (f i)) B
    rw [ih i hi, ← mt_sum_perm _ hp, mt_sum_map]
    congr 1
    apply mt_sum_congr
    intro e he
    exact (mt_con_mv hf ih (hA e he) hi).symm
end
section
/-! all assignments in the dictionary order, as a tree, and as the reference spells them -/
def mt_ext : Nat → List Nat → List (List Nat)
  | 0, p => [p]
  | m + 1, p => (List.range' 0 6).flatMap (fun j => if p.contains j then [] else mt_ext m (p ++ [j]))
def mt_fr (m : Nat) (p : List Nat) (j : Nat) : List (List Nat) := (List.range' j (6 - j)).flatMap (fun j => if p.contains j then [] else mt_ext m (p ++ [j]))
theorem mt_fr_0 (m : Nat) (p : List Nat) : mt_fr m p 0 = mt_ext (m + 1) p := rfl
theorem mt_fr_s (m : Nat) (p : List Nat) {j : Nat} (h : j < 6) : mt_fr m p j = (if p.contains j then [] else mt_ext m (p ++ [j])) ++ mt_fr m p (j + 1) := by
  unfold mt_fr
  rw [show 6 - j = (6 - (j + 1)) + 1 from by omega, List.range'_succ, List.flatMap_cons]
theorem mt_fr_6 (m : Nat) (p : List Nat) {j : Nat} (h : 6 ≤ j) : mt_fr m p j = [] := by
  unfold mt_fr
  rw [show 6 - j = 0 from by omega]
  rfl
theorem mt_ext_mem : ∀ (m : Nat) (p q : List Nat), q ∈ mt_ext m p → ∃ s, q = p ++ s := by
  intro m
  induction m with
  | zero =>
    intro p q h
    have h2 : q ∈ [p] := h
    exact ⟨[], by rw [List.append_nil]; exact List.mem_singleton.mp h2⟩
  | succ m ih =>
    intro p q h
    have h2 : q ∈ (List.range' 0 6).flatMap (fun j => if p.contains j then [] else mt_ext m (p ++ [j])) := h
    obtain ⟨j, _, h3⟩ := List.mem_flatMap.mp h2
    by_cases hc : p.contains j = true
    · rw [if_pos hc] at h3
      exact absurd h3 List.not_mem_nil
    · rw [if_neg hc] at h3
      obtain ⟨s, hs⟩ := ih _ _ h3
      exact ⟨j :: s, by rw [hs, List.append_assoc]; rfl⟩
def mt_fn (q : List Nat) : Nat → Nat := fun i => q.getD i 0
theorem mt_fn_app (p s : List Nat) {i : Nat} (h : i < p.length) : mt_fn (p ++ s) i = mt_fn p i := by
  unfold mt_fn
  rw [List.getD_eq_getElem?_getD, List.getD_eq_getElem?_getD, List.getElem?_append_left h]
theorem mt_fn_last (p : List Nat) (j : Nat) : mt_fn (p ++ [j]) p.length = j := by
  unfold mt_fn
  rw [List.getD_eq_getElem?_getD, List.getElem?_append_right (Nat.le_refl _), Nat.sub_self]
  rfl
def mt_free (used skip : Nat) : Nat → Nat → Nat → Nat
  | 0, _, _ => 0
  | k + 1, n, j => if used.testBit j = false then (if n = skip then j else mt_free used skip k (n + 1) (j + 1)) else mt_free used skip k n (j + 1)
def mt_sp : Nat → Nat → Nat → Nat → Nat → List Nat
  | 0, _, _, _, _ => []
  | m + 1, used, rest, block, k => mt_free used (if block / (6 - k) = 0 then 0 else rest / (block / (6 - k))) 6 0 0 :: mt_sp m (used ||| 2 ^ (mt_free used (if block / (6 - k) = 0 then 0 else rest / (block / (6 - k))) 6 0 0)) (if block / (6 - k) = 0 then 0 else rest % (block / (6 - k))) (block / (6 - k)) (k + 1)
def mt_spell (code : Nat) : List Nat := mt_sp 6 0 code 720 0
theorem mt_spell_all : (List.range' 0 720).map mt_spell = mt_ext 6 [] := by decide +kernel
theorem mt_ext_len : (mt_ext 6 []).length = 720 := by decide +kernel
theorem mt_ext_chk : (mt_ext 6 []).all (fun q => q.length == 6 && ((List.range 6).all (fun i => decide (mt_fn q i < 6)) && ((List.range 6).all (fun i => (List.range 6).all (fun j => !(mt_fn q i == mt_fn q j) || i == j)) && (List.range 6).all (fun j => (List.range 6).any (fun i => mt_fn q i == j))))) = true := by decide +kernel
theorem mt_ext_pm {q : List Nat} (h : q ∈ mt_ext 6 []) : q.length = 6 ∧ mt_PM (mt_fn q) := by
  have h1 := List.all_eq_true.mp mt_ext_chk q h
  rw [Bool.and_eq_true, Bool.and_eq_true, Bool.and_eq_true] at h1
  obtain ⟨a, b, c, d⟩ := h1
  refine ⟨beq_iff_eq.mp a, ?_, ?_, ?_⟩
  · intro i hi
    exact of_decide_eq_true (List.all_eq_true.mp b i (List.mem_range.mpr hi))
  · intro i hi j hj hij
    have h2 := List.all_eq_true.mp (List.all_eq_true.mp c i (List.mem_range.mpr hi)) j (List.mem_range.mpr hj)
    rw [hij] at h2
    simpa using h2
  · intro j hj
    obtain ⟨i, hi, h2⟩ := List.any_eq_true.mp (List.all_eq_true.mp d j (List.mem_range.mpr hj))
    exact ⟨i, List.mem_range.mp hi, beq_iff_eq.mp h2⟩
theorem mt_spell_mem {code : Nat} (h : code < 720) : mt_spell code ∈ mt_ext 6 [] := by
  rw [← mt_spell_all]
  exact List.mem_map.mpr ⟨code, List.mem_range'_1.mpr ⟨Nat.zero_le _, by omega⟩, rfl⟩
/-! the conditions of a search: cand at each level, ag over what is assigned so far -/
def mt_C (cand : Nat → Nat → Bool) (ag : (Nat → Nat) → Nat → Bool) (q : List Nat) (l : Nat) : Bool := cand l (mt_fn q l) && ag (mt_fn q) l
def mt_G (cand : Nat → Nat → Bool) (ag : (Nat → Nat) → Nat → Bool) (q : List Nat) : Bool := (List.range 6).all (fun l => mt_C cand ag q l)
def mt_Loc (ag : (Nat → Nat) → Nat → Bool) : Prop := ∀ f f' k, (∀ i, i ≤ k → f i = f' i) → ag f k = ag f' k
theorem mt_C_app {cand : Nat → Nat → Bool} {ag : (Nat → Nat) → Nat → Bool} (ha : mt_Loc ag) (p s : List Nat) {l : Nat} (h : l < p.length) : mt_C cand ag (p ++ s) l = mt_C cand ag p l := by
  unfold mt_C
  rw [mt_fn_app p s h, ha (mt_fn (p ++ s)) (mt_fn p) l (fun i hi => mt_fn_app p s (by omega))]
theorem mt_dead {cand : Nat → Nat → Bool} {ag : (Nat → Nat) → Nat → Bool} (ha : mt_Loc ag) (m : Nat) (p : List Nat) {l : Nat} (hl : l < 6) (h : l < p.length) (hc : mt_C cand ag p l = false) : (mt_ext m p).filter (mt_G cand ag) = [] := by
  rw [List.filter_eq_nil_iff]
  intro q hq hg
  obtain ⟨s, rfl⟩ := mt_ext_mem m p q hq
  have h2 := List.all_eq_true.mp hg l (List.mem_range.mpr hl)
  rw [mt_C_app ha p s h, hc] at h2
  exact absurd h2 (by decide)
theorem mt_skip {cand : Nat → Nat → Bool} {ag : (Nat → Nat) → Nat → Bool} (ha : mt_Loc ag) (m : Nat) (p : List Nat) {j : Nat} (hj : j < 6) (hp : p.length < 6) (h : p.contains j = true ∨ mt_C cand ag (p ++ [j]) p.length = false) : (mt_fr m p j).filter (mt_G cand ag) = (mt_fr m p (j + 1)).filter (mt_G cand ag) := by
  rw [mt_fr_s m p hj, List.filter_append]
  have e : (if p.contains j then [] else mt_ext m (p ++ [j])).filter (mt_G cand ag) = [] := by
    by_cases hc : p.contains j = true
    · rw [if_pos hc]; rfl
    · rw [if_neg hc]
      exact mt_dead ha m _ hp (by rw [List.length_append]; exact Nat.lt_succ_self _) (h.resolve_left hc)
  rw [e, List.nil_append]
theorem mt_skips {cand : Nat → Nat → Bool} {ag : (Nat → Nat) → Nat → Bool} (ha : mt_Loc ag) (m : Nat) (p : List Nat) (hp : p.length < 6) : ∀ (d j : Nat), j + d ≤ 6 → (∀ i, j ≤ i → i < j + d → p.contains i = true ∨ mt_C cand ag (p ++ [i]) p.length = false) → (mt_fr m p j).filter (mt_G cand ag) = (mt_fr m p (j + d)).filter (mt_G cand ag) := by
  intro d
  induction d with
  | zero => intro j _ _; rfl
  | succ d ih =>
    intro j hj h
    rw [mt_skip ha m p (by omega) hp (h j (Nat.le_refl _) (by omega)), ih (j + 1) (by omega) (fun i h1 h2 => h i (by omega) (by omega)), show j + 1 + d = j + (d + 1) from by omega]
theorem mt_leaf {cand : Nat → Nat → Bool} {ag : (Nat → Nat) → Nat → Bool} {p : List Nat} (h : ∀ l, l < 6 → mt_C cand ag p l = true) : mt_G cand ag p = true :=
  List.all_eq_true.mpr (fun l hl => h l (List.mem_range.mp hl))
/-! how many nets from j on are free -/
def mt_nf (p : List Nat) (j : Nat) : Nat := (List.range' j (6 - j)).countP (fun i => !p.contains i)
theorem mt_nf_s (p : List Nat) {j : Nat} (h : j < 6) : mt_nf p j = mt_nf p (j + 1) + (if p.contains j then 0 else 1) := by
  unfold mt_nf
  rw [show 6 - j = (6 - (j + 1)) + 1 from by omega, List.range'_succ, List.countP_cons]
  cases p.contains j <;> rfl
theorem mt_nf_mono (p : List Nat) : ∀ (d j : Nat), j + d ≤ 6 → mt_nf p (j + d) ≤ mt_nf p j := by
  intro d
  induction d with
  | zero => intro j _; exact Nat.le_refl _
  | succ d ih =>
    intro j hj
    have h1 := ih (j + 1) (by omega)
    have h2 := mt_nf_s p (j := j) (by omega)
    rw [show j + (d + 1) = j + 1 + d from by omega]
    omega
/-- a net taken: one free net less -/
theorem mt_nf_take (p : List Nat) {i : Nat} (hi : i < 6) (hc : p.contains i = false) : ∀ (d j : Nat), j + d = 6 → mt_nf (p ++ [i]) j + (if j ≤ i then 1 else 0) = mt_nf p j := by
  intro d
  induction d with
  | zero =>
    intro j hj
    rw [if_neg (by omega)]
    have : j = 6 := by omega
    subst this
    rfl
  | succ d ih =>
    intro j hj
    have h1 := ih (j + 1) (by omega)
    rw [mt_nf_s p (by omega), mt_nf_s (p ++ [i]) (by omega)]
    by_cases hji : j = i
    · subst hji
      have e1 : (p ++ [j]).contains j = true := by simp
      rw [if_pos e1, if_pos (Nat.le_refl _), hc]
      rw [if_neg (by omega)] at h1
      have e2 : (if false = true then 0 else 1) = 1 := rfl
      rw [e2]
      omega
    · have e1 : (p ++ [i]).contains j = p.contains j := by
        simp [hji]
      rw [e1]
      by_cases hle : j ≤ i
      · rw [if_pos (by omega)] at h1
        rw [if_pos hle]
        omega
      · rw [if_neg (by omega)] at h1
        rw [if_neg hle]
        omega
theorem mt_nf_0 : mt_nf [] 0 = 6 := by decide
end
section
/-! the reference's test of one assignment, and that it is a match; the search's conditions, and that they are a match -/
def mt_sm (pk pl : Nat) (E F : Nat → MtDV) (e d : Nat) : Bool := pk.testBit e && (pl.testBit d && decide (E e = F d))
def mt_F (pa pb : Nat) (Da Db : Nat → MtDV) (nA nB : Nat → Nat) (f : Nat → Nat) : Bool :=
  (List.range' 0 6).all (fun i => decide (nA i = nB (f i))) && (decide ((List.range' 0 7).countP (fun d => pa.testBit d) = (List.range' 0 7).countP (fun d => pb.testBit d)) && (List.range' 0 7).all (fun d => decide ((List.range' 0 7).countP (fun e => mt_sm pa pb (fun x => mt_mv f (Da x)) Db e d) = (List.range' 0 7).countP (fun e => mt_sm pb pb Db Db e d))))
theorem mt_F_cnt (pa pb : Nat) (E Db : Nat → MtDV) {d : Nat} (hd : pb.testBit d = true) : (List.range' 0 7).countP (fun e => mt_sm pa pb E Db e d) = (mt_L pa E).count (Db d) := by
  rw [mt_L_count, ← List.range_eq_range']
  apply List.countP_congr
  intro x _
  show (pa.testBit x && (pb.testBit d && decide (E x = Db d))) = true ↔ (pa.testBit x && (E x == Db d)) = true
  rw [hd, Bool.true_and, Bool.and_eq_true, Bool.and_eq_true, decide_eq_true_iff, beq_iff_eq]
theorem mt_F_cnt0 (pa pb : Nat) (E Db : Nat → MtDV) {d : Nat} (hd : pb.testBit d = false) : (List.range' 0 7).countP (fun e => mt_sm pa pb E Db e d) = 0 := by
  rw [List.countP_eq_zero]
  intro x _
  show ¬ (pa.testBit x && (pb.testBit d && decide (E x = Db d))) = true
  rw [hd, Bool.false_and, Bool.and_false]
  decide
theorem mt_L_mapmv (pa : Nat) (Da : Nat → MtDV) (f : Nat → Nat) : (mt_L pa Da).map (mt_mv f) = mt_L pa (fun x => mt_mv f (Da x)) := by
  unfold mt_L
  rw [List.map_map]
  rfl
theorem mt_F_iff (pa pb : Nat) (Da Db : Nat → MtDV) (nA nB : Nat → Nat) (f : Nat → Nat) : mt_F pa pb Da Db nA nB f = true ↔ (∀ i, i < 6 → nA i = nB (f i)) ∧ ((mt_L pa Da).map (mt_mv f)).Perm (mt_L pb Db) := by
  unfold mt_F
  rw [Bool.and_eq_true, Bool.and_eq_true, List.all_eq_true, List.all_eq_true, decide_eq_true_iff, mt_L_mapmv]
  have hlen : ∀ (p : Nat) (D : Nat → MtDV), (mt_L p D).length = (List.range' 0 7).countP (fun d => p.testBit d) := by
    intro p D
    rw [mt_L_length, ← List.range_eq_range']
  constructor
  · rintro ⟨h1, h2, h3⟩
    refine ⟨fun i hi => of_decide_eq_true (h1 i (List.mem_range'_1.mpr ⟨Nat.zero_le _, by omega⟩)), mt_pc ?_ ?_⟩
    · intro e he
      obtain ⟨d, hd, hb, rfl⟩ := mt_L_mem.mp he
      have h4 := of_decide_eq_true (h3 d (List.mem_range'_1.mpr ⟨Nat.zero_le _, by omega⟩))
      rw [mt_F_cnt _ _ _ _ hb, mt_F_cnt _ _ _ _ hb] at h4
      exact h4
    · rw [hlen, hlen, h2]
  · rintro ⟨h1, h2⟩
    refine ⟨fun i hi => decide_eq_true (h1 i (by have := List.mem_range'_1.mp hi; omega)), ?_, fun d hd => decide_eq_true ?_⟩
    · have h3 := h2.length_eq
      rw [hlen, hlen] at h3
      exact h3
    · by_cases hb : pb.testBit d = true
      · rw [mt_F_cnt _ _ _ _ hb, mt_F_cnt _ _ _ _ hb]
        exact h2.count_eq _
      · have hb2 : pb.testBit d = false := by simpa using hb
        rw [mt_F_cnt0 _ _ _ _ hb2, mt_F_cnt0 _ _ _ _ hb2]
/-- what a net of the other circuit must have -/
def mt_cand (pin : Nat → Nat → Bool) (nA nB mA mB : Nat → Int32) (l j : Nat) : Bool := pin l j && (decide (nA l = nB j) && decide (mA l = mB j))
theorem mt_ag_loc (A B : List MtDV) : mt_Loc (mt_ag A B) := fun _ _ _ h => mt_ag_congr h
theorem mt_G_iff {f : Nat → Nat} (q : List Nat) (hq : mt_fn q = f) (hf : mt_PM f) {A B : List MtDV} (hA : ∀ e, e ∈ A → mt_ok e) (hB : ∀ e, e ∈ B → mt_ok e) (pin : Nat → Nat → Bool) (nA nB : Nat → Int32) : mt_G (mt_cand pin nA nB (mt_mk A nA 6) (mt_mk B nB 6)) (mt_ag A B) q = true ↔ (∀ l, l < 6 → pin l (f l) = true) ∧ (∀ i, i < 6 → nA i = nB (f i)) ∧ (A.map (mt_mv f)).Perm B := by
  unfold mt_G mt_C
  rw [hq, List.all_eq_true]
  constructor
  · intro h
    have h2 : ∀ l, l < 6 → (pin l (f l) = true ∧ nA l = nB (f l) ∧ mt_mk A nA 6 l = mt_mk B nB 6 (f l)) ∧ mt_ag A B f l = true := by
      intro l hl
      have h3 := h l (List.mem_range.mpr hl)
      unfold mt_cand at h3
      rw [Bool.and_eq_true, Bool.and_eq_true, Bool.and_eq_true, decide_eq_true_iff, decide_eq_true_iff] at h3
      exact h3
    exact ⟨fun l hl => (h2 l hl).1.1, fun l hl => (h2 l hl).1.2.1, (mt_perm_iff hf hA hB).mp (mt_ag_all.mp (fun l hl => (h2 l hl).2))⟩
  · rintro ⟨h1, h2, h3⟩ l hl
    have hl2 := List.mem_range.mp hl
    unfold mt_cand
    rw [Bool.and_eq_true, Bool.and_eq_true, Bool.and_eq_true, decide_eq_true_iff, decide_eq_true_iff]
    exact ⟨⟨h1 l hl2, h2 l hl2, mt_mk_inv hf hA h3 h2 6 l hl2⟩, mt_ag_all.mpr ((mt_perm_iff hf hA hB).mpr h3) l hl2⟩
/-- both sides pick the same assignments -/
theorem mt_GF {pa pb : Nat} {Da Db : Nat → MtDV} (hA : ∀ d, d < 7 → mt_ok (Da d)) (hB : ∀ d, d < 7 → mt_ok (Db d)) (pin : Nat → Nat → Bool) (nA nB : Nat → Nat) (nA' nB' : Nat → Int32) (hn : ∀ i, i < 6 → ∀ j, j < 6 → (nA' i = nB' j ↔ nA i = nB j)) {q : List Nat} (hq : q ∈ mt_ext 6 []) : mt_G (mt_cand pin nA' nB' (mt_mk (mt_L pa Da) nA' 6) (mt_mk (mt_L pb Db) nB' 6)) (mt_ag (mt_L pa Da) (mt_L pb Db)) q = ((List.range 6).all (fun l => pin l (mt_fn q l)) && mt_F pa pb Da Db nA nB (mt_fn q)) := by
  have hf := (mt_ext_pm hq).2
  apply Bool.eq_iff_iff.mpr
  rw [mt_G_iff q rfl hf (mt_L_ok hA) (mt_L_ok hB), Bool.and_eq_true, mt_F_iff, List.all_eq_true]
  constructor
  · rintro ⟨h1, h2, h3⟩
    exact ⟨fun l hl => h1 l (List.mem_range.mp hl), fun i hi => (hn i hi _ (hf.1 i hi)).mp (h2 i hi), h3⟩
  · rintro ⟨h1, h2, h3⟩
    exact ⟨fun l hl => h1 l (List.mem_range.mpr hl), fun i hi => (hn i hi _ (hf.1 i hi)).mpr (h2 i hi), h3⟩
end
section
/-! the component's small methods: isCircuit, isNet, has, countDevices -/
def xw_A (P : Nat → Nat) (D : Nat → MtDV) (a_present a_types a_gates a_ends a_others : Nat → Int32) : Prop :=
  (∀ c, c < 2 → P c < 128 ∧ a_present c = nI (P c)) ∧ (∀ q, q < 14 → mt_ok (D q) ∧ a_types q = nI (D q).1 ∧ a_gates q = nI (D q).2.1 ∧ a_ends q = nI (D q).2.2.1 ∧ a_others q = nI (D q).2.2.2)
def xw_L (P : Nat → Nat) (D : Nat → MtDV) (c : Nat) : List MtDV := mt_L (P c) (fun d => D (7 * c + d))
section
variable {f_one f_other f_pinnedNet f_pinnedTo f_found : Int32} {a_present a_types a_gates a_ends a_others a_names a_marks a_nextMarks a_chosen a_first a_possible : Nat → Int32}
variable {P : Nat → Nat} {D : Nat → MtDV}
theorem xw_circ {post : Int32 → Prop} {c : Nat} (hc : c < 2) (h : post 1) : wpX_isCircuit post (nI c) := by
  rcases (by omega : c = 0 ∨ c = 1) with rfl | rfl
  · exact br_t rfl h
  · exact br_f (by decide) (br_t rfl h)
theorem xw_circN {post : Int32 → Prop} {x : Int32} (h0 : ¬ x = 0) (h1 : ¬ x = 1) (h : post 0) : wpX_isCircuit post x := br_f h0 (br_f h1 h)
theorem xw_net {post : Int32 → Prop} {i : Nat} (hi : i < 6) (h : post 1) : wpX_isNet post (nI i) :=
  br_f (nI_pos (by omega)) (br_f (nI_ge (b := 6) hi (by decide)) h)
theorem xw_netN {post : Int32 → Prop} {x : Int32} (hx : x < 0 ∨ nI 6 ≤ x) (h : post 0) : wpX_isNet post x := by
  by_cases h0 : x < 0
  · exact br_t h0 h
  · exact br_f h0 (br_t (hx.resolve_left h0) h)
theorem xw_has {post : Int32 → Prop} (hA : xw_A P D a_present a_types a_gates a_ends a_others) {c d : Nat} (hc : c < 2) (hd : d < 7) (h1 : (P c).testBit d = true → post 1) (h0 : (P c).testBit d = false → post 0) : wpX_has post (f_one, f_other, f_pinnedNet, f_pinnedTo, f_found, a_present, a_types, a_gates, a_ends, a_others, a_names, a_marks, a_nextMarks, a_chosen, a_first, a_possible) (nI c) (nI d) := by
  unfold wpX_has
  dsimp only
  refine xw_circ hc ?_
  refine br_f (by decide) (br_f (nI_pos (by omega)) (br_f (nI_ge (b := 7) hd (by decide)) ⟨vp_in_nI hc (by decide), ?_⟩))
  rw [nI_clamp (by omega), (hA.1 c hc).2]
  have hb := ar_bit (P c) (hA.1 c hc).1 d hd
  cases hz : (P c).testBit d
  · exact br_t (hb.mpr hz) (h0 hz)
  · exact br_f (fun z => by rw [hb.mp z] at hz; exact absurd hz (by decide)) (h1 hz)
theorem xw_hasN {post : Int32 → Prop} {x y : Int32} (h : (¬ x = 0 ∧ ¬ x = 1) ∨ y < 0 ∨ nI 7 ≤ y) (h0 : post 0) : wpX_has post (f_one, f_other, f_pinnedNet, f_pinnedTo, f_found, a_present, a_types, a_gates, a_ends, a_others, a_names, a_marks, a_nextMarks, a_chosen, a_first, a_possible) x y := by
  unfold wpX_has
  dsimp only
  rcases ar_01 x with ⟨c, hc, rfl⟩ | ⟨a, b⟩
  · have h2 : y < 0 ∨ nI 7 ≤ y := by
      refine h.resolve_left (fun z => ?_)
      rcases (by omega : c = 0 ∨ c = 1) with rfl | rfl
      · exact z.1 rfl
      · exact z.2 rfl
    refine xw_circ hc (br_f (by decide) ?_)
    by_cases hy : y < 0
    · exact br_t hy h0
    · exact br_f hy (br_t (h2.resolve_left hy) h0)
  · exact xw_circN a b (br_t rfl h0)
theorem xw_cd103 {post : Int32 → Prop} {J : Int32 → Int32 → Prop} {x1 x2 x3 x6 x7 x10 : Int32} {m d : Nat} (h : J (nI m) (nI (d + 1))) : wX_countDevices_103 post J x1 x2 x3 x6 x7 (nI m) (nI d) x10 f_one f_other f_pinnedNet f_pinnedTo f_found a_present a_types a_gates a_ends a_others a_names a_marks a_nextMarks a_chosen a_first a_possible :=
  br_t rfl (nm_r (e' := nI m) (Int32.add_zero _) (nm_r (nI_1 d) h))
theorem xw_cd38 {post : Int32 → Prop} (hA : xw_A P D a_present a_types a_gates a_ends a_others) {c t g lo hi : Nat} (hc : c < 2) (ht : t < 3) (hg : g < 6) (hlo : lo < 6) (hhi : hi < 6) : ∀ (k d m : Nat), d + k = 7 → post (nI (m + (List.range' d k).countP (fun d => (P c).testBit d && decide (D (7 * c + d) = (t, (if t = 2 then 0 else g), lo, hi))))) → wX_countDevices_38 post (nI c) (nI t) (nI g) (nI lo) (nI hi) f_one f_other f_pinnedNet f_pinnedTo f_found a_present a_types a_gates a_ends a_others a_names a_marks a_nextMarks a_chosen a_first a_possible (k + 1) (nI m) (nI d) := by
  intro k
  induction k with
  | zero =>
    intro d m hd hp
    exact br_t (nI_le (a := 7) (by omega) (by omega)) hp
  | succ k ih =>
    intro d m hd hp
    have hq : 7 * c + d < 14 := by omega
    obtain ⟨ok, hT, hGt, hE, hO⟩ := hA.2 _ hq
    have hin : vp_in (nI (7 * c + d)) 14 := vp_in_nI hq (by decide)
    have hcl : (nI (7 * c + d)).toNatClampNeg = 7 * c + d := nI_clamp (by omega)
    rw [List.range'_succ, List.countP_cons] at hp
    have hb1 : (D (7 * c + d)).1 < 3 := ok.1
    have hb2 : (D (7 * c + d)).2.1 < 6 := ok.2.1
    have hb3 : (D (7 * c + d)).2.2.1 < 6 := Nat.lt_of_le_of_lt ok.2.2.1 ok.2.2.2.1
    have hb4 : (D (7 * c + d)).2.2.2 < 6 := ok.2.2.2.1
    have hz5 := ok.2.2.2.2
    refine br_f (nI_ge (b := 7) (by omega) (by decide)) (nm_r (ar_c7 c d) ?_)
    by_cases hq2 : (P c).testBit d = true ∧ D (7 * c + d) = (t, (if t = 2 then 0 else g), lo, hi)
    · have hcond : ((P c).testBit d && decide (D (7 * c + d) = (t, (if t = 2 then 0 else g), lo, hi))) = true := by
        rw [hq2.1, decide_eq_true hq2.2]
        rfl
      rw [if_pos hcond, Nat.add_comm _ 1, ← Nat.add_assoc] at hp
      have hk := ih (d + 1) (m + 1) (by omega) hp
      refine xw_has hA hc (by omega) (fun _ => ?_) (fun z => absurd (hq2.1.symm.trans z) (by decide))
      have e := hq2.2
      refine br_f (by decide) ⟨hin, ?_⟩
      refine br_t (by rw [hcl, hT, e]) ⟨hin, br_t (by rw [hcl, hE, e]) ⟨hin, br_t (by rw [hcl, hO, e]) ?_⟩⟩
      refine br_f (by decide) ?_
      by_cases h2 : t = 2
      · exact br_t (by rw [h2]; rfl) (nm_r (nI_1 m) (nm_r (nI_1 d) hk))
      · refine br_f (fun z => h2 ((nI_eq (b := 2) (by omega) (by decide)).mp z)) ⟨hin, br_t ?_ (nm_r (nI_1 m) (nm_r (nI_1 d) hk))⟩
        rw [hcl, hGt, e]
        show nI (if t = 2 then 0 else g) = nI g
        rw [if_neg h2]
    · have hcond : ¬ ((P c).testBit d && decide (D (7 * c + d) = (t, (if t = 2 then 0 else g), lo, hi))) = true := by
        intro z
        rw [Bool.and_eq_true, decide_eq_true_iff] at z
        exact hq2 z
      rw [if_neg hcond] at hp
      have hk := ih (d + 1) m (by omega) hp
      refine xw_has hA hc (by omega) (fun hb => ?_) (fun _ => br_t rfl (xw_cd103 hk))
      refine br_f (by decide) ⟨hin, pk_eq (D (7 * c + d)).1 t (fun e1 => ⟨hin, pk_eq (D (7 * c + d)).2.2.1 lo (fun e3 => ⟨hin, pk_eq (D (7 * c + d)).2.2.2 hi (fun e4 => ?_) (fun _ => xw_cd103 hk) (by rw [hcl, hO])⟩) (fun _ => xw_cd103 hk) (by rw [hcl, hE])⟩) (fun _ => xw_cd103 hk) (by rw [hcl, hT])⟩
      refine br_f (by decide) ?_
      by_cases h2 : t = 2
      · refine absurd ⟨hb, ?_⟩ hq2
        rw [if_pos h2, ← hz5 (by omega), ← e1, ← e3, ← e4]
      · refine br_f (fun z => h2 ((nI_eq (b := 2) (by omega) (by decide)).mp z)) ⟨hin, br_f ?_ (nm_r (e' := nI m) (Int32.add_zero _) (nm_r (nI_1 d) hk))⟩
        intro z
        rw [hcl, hGt, nI_eq (by omega) (by omega)] at z
        refine hq2 ⟨hb, ?_⟩
        rw [if_neg h2, ← z, ← e1, ← e3, ← e4]
theorem xw_cd {post : Int32 → Prop} (hA : xw_A P D a_present a_types a_gates a_ends a_others) {c t g x y : Nat} (hc : c < 2) (ht : t < 3) (hg : g < 6) (hx : x < 6) (hy : y < 6) (h : post (nI ((xw_L P D c).count (mt_nrm t g x y)))) : wpX_countDevices post (f_one, f_other, f_pinnedNet, f_pinnedTo, f_found, a_present, a_types, a_gates, a_ends, a_others, a_names, a_marks, a_nextMarks, a_chosen, a_first, a_possible) (nI c) (nI t) (nI g) (nI x) (nI y) := by
  have e : (xw_L P D c).count (mt_nrm t g x y) = 0 + (List.range' 0 7).countP (fun d => (P c).testBit d && decide (D (7 * c + d) = (t, (if t = 2 then 0 else g), min x y, max x y))) := by
    unfold xw_L
    rw [mt_L_count, ← List.range_eq_range', Nat.zero_add]
    apply List.countP_congr
    intro d _
    rw [Bool.and_eq_true, Bool.and_eq_true, decide_eq_true_iff, beq_iff_eq]
    exact Iff.rfl
  rw [e] at h
  refine pk_le y x (fun hle => pk_le y x (fun _ => ⟨8, ?_⟩) (fun hlt => absurd hle (by omega))) (fun hlt => pk_le y x (fun hle => absurd hle (by omega)) (fun _ => ⟨8, ?_⟩))
  · rw [Nat.min_eq_right hle, Nat.max_eq_left hle] at h
    exact xw_cd38 hA hc ht hg hy hx 7 0 0 rfl h
  · rw [Nat.min_eq_left (by omega), Nat.max_eq_right (by omega)] at h
    exact xw_cd38 hA hc ht hg hx hy 7 0 0 rfl h
end
end
section
/-! the component's agreesAt, agrees, nextNet -/
section
variable {f_one f_other f_pinnedNet f_pinnedTo f_found : Int32} {a_present a_types a_gates a_ends a_others a_names a_marks a_nextMarks a_chosen a_first a_possible : Nat → Int32}
variable {P : Nat → Nat} {D : Nat → MtDV}
theorem xw_cnt_lt (c : Nat) (e : MtDV) : (xw_L P D c).count e < 2 ^ 31 := by
  have h1 := List.count_le_length (a := e) (l := xw_L P D c)
  have h2 : (xw_L P D c).length ≤ 7 := by
    unfold xw_L
    rw [mt_L_length]
    exact List.countP_le_length
  omega
theorem xw_aa81 {post : Int32 → Prop} (hA : xw_A P D a_present a_types a_gates a_ends a_others) {a b t x k : Nat} {f : Nat → Nat} (ha : a < 2) (hb : b < 2) (ht : t < 3) (hx : x ≤ k) (hk : k < 6) (hch : ∀ i, i ≤ k → a_chosen i = nI (f i) ∧ f i < 6) : ∀ (n y : Nat), y + n = k → ((t ≠ 2 → ∀ y', y ≤ y' → y' < k → (xw_L P D a).count (mt_nrm t k x y') = (xw_L P D b).count (mt_nrm t (f k) (f x) (f y'))) → post 1) → ((¬ (t ≠ 2 → ∀ y', y ≤ y' → y' < k → (xw_L P D a).count (mt_nrm t k x y') = (xw_L P D b).count (mt_nrm t (f k) (f x) (f y')))) → post 0) → wX_agreesAt_81 post (nI t) (nI x) (nI k) (nI a) (nI b) f_pinnedNet f_pinnedTo f_found a_present a_types a_gates a_ends a_others a_names a_marks a_nextMarks a_chosen a_first a_possible (n + 1) (nI y) := by
  intro n
  induction n with
  | zero =>
    intro y hy h1 _
    exact br_t (nI_le (by omega) (by omega)) (h1 (fun _ y' h2 h3 => absurd h3 (by omega)))
  | succ n ih =>
    intro y hy h1 h0
    refine br_f (nI_ge (by omega) (by omega)) ?_
    by_cases h2 : t = 2
    · exact br_t (by rw [h2]; rfl) (h1 (fun z => absurd h2 z))
    · refine br_f (fun z => h2 ((nI_eq (b := 2) (by omega) (by decide)).mp z)) ?_
      refine xw_cd hA ha ht hk (by omega) (by omega) ?_
      refine ⟨vp_in_nI (by omega) (by decide), vp_in_nI (by omega) (by decide), vp_in_nI (by omega) (by decide), ?_⟩
      rw [nI_clamp (n := k) (by omega), nI_clamp (n := x) (by omega), nI_clamp (n := y) (by omega), (hch k (Nat.le_refl k)).1, (hch x hx).1, (hch y (by omega)).1]
      refine xw_cd hA hb ht (hch k (Nat.le_refl k)).2 (hch x hx).2 (hch y (by omega)).2 ?_
      refine pk_eq ((xw_L P D a).count (mt_nrm t k x y)) ((xw_L P D b).count (mt_nrm t (f k) (f x) (f y))) (fun e => nm_r (nI_1 y) (ih (y + 1) (by omega) (fun h3 => h1 ?_) (fun h3 => h0 ?_))) (fun ne => h0 ?_) rfl rfl (xw_cnt_lt _ _) (xw_cnt_lt _ _)
      · intro h4 y' h5 h6
        by_cases h7 : y' = y
        · rw [h7]; exact e
        · exact h3 h4 y' (by omega) h6
      · intro h4
        exact h3 (fun h5 y' h6 h7 => h4 h5 y' (by omega) h7)
      · intro h4
        exact ne (h4 h2 y (Nat.le_refl y) (by omega))
theorem xw_aa15 {post : Int32 → Prop} (hA : xw_A P D a_present a_types a_gates a_ends a_others) {a b t x k u : Nat} {f : Nat → Nat} (ha : a < 2) (hb : b < 2) (ht : t < 3) (hx : x ≤ k) (hk : k < 6) (hu : u ≤ k) (hch : ∀ i, i ≤ k → a_chosen i = nI (f i) ∧ f i < 6) : ∀ (n g : Nat), g + n = u + 1 → (((∀ g', g ≤ g' → g' ≤ u → (xw_L P D a).count (mt_nrm t g' x k) = (xw_L P D b).count (mt_nrm t (f g') (f x) (f k))) ∧ (t ≠ 2 → ∀ y', y' < k → (xw_L P D a).count (mt_nrm t k x y') = (xw_L P D b).count (mt_nrm t (f k) (f x) (f y')))) → post 1) → ((¬ ((∀ g', g ≤ g' → g' ≤ u → (xw_L P D a).count (mt_nrm t g' x k) = (xw_L P D b).count (mt_nrm t (f g') (f x) (f k))) ∧ (t ≠ 2 → ∀ y', y' < k → (xw_L P D a).count (mt_nrm t k x y') = (xw_L P D b).count (mt_nrm t (f k) (f x) (f y'))))) → post 0) → wX_agreesAt_15 post (nI t) (nI x) (nI k) (nI u) (nI a) (nI b) f_pinnedNet f_pinnedTo f_found a_present a_types a_gates a_ends a_others a_names a_marks a_nextMarks a_chosen a_first a_possible (n + 1) (nI g) := by
  intro n
  induction n with
  | zero =>
    intro g hg h1 h0
    refine br_t (nI_lt (by omega) (by omega)) ⟨k + 1, xw_aa81 hA ha hb ht hx hk hch k 0 (by omega) (fun h2 => h1 ⟨fun g' h3 h4 => absurd h4 (by omega), fun h3 y' h4 => h2 h3 y' (Nat.zero_le _) h4⟩) (fun h2 => h0 (fun h3 => h2 (fun h4 y' _ h6 => h3.2 h4 y' h6)))⟩
  | succ n ih =>
    intro g hg h1 h0
    refine br_f (nI_nlt (by omega) (by omega)) ?_
    refine xw_cd hA ha ht (by omega) (by omega) (by omega) ?_
    refine ⟨vp_in_nI (by omega) (by decide), vp_in_nI (by omega) (by decide), vp_in_nI (by omega) (by decide), ?_⟩
    rw [nI_clamp (n := k) (by omega), nI_clamp (n := x) (by omega), nI_clamp (n := g) (by omega), (hch k (Nat.le_refl k)).1, (hch x hx).1, (hch g (by omega)).1]
    refine xw_cd hA hb ht (hch g (by omega)).2 (hch x hx).2 (hch k (Nat.le_refl k)).2 ?_
    refine pk_eq ((xw_L P D a).count (mt_nrm t g x k)) ((xw_L P D b).count (mt_nrm t (f g) (f x) (f k))) (fun e => nm_r (nI_1 g) (ih (g + 1) (by omega) (fun h3 => h1 ⟨?_, h3.2⟩) (fun h3 => h0 ?_))) (fun ne => h0 ?_) rfl rfl (xw_cnt_lt _ _) (xw_cnt_lt _ _)
    · intro g' h5 h6
      by_cases h7 : g' = g
      · rw [h7]; exact e
      · exact h3.1 g' (by omega) h6
    · intro h4
      exact h3 ⟨fun g' h6 h7 => h4.1 g' (by omega) h7, h4.2⟩
    · intro h4
      exact ne (h4.1 g (Nat.le_refl g) (by omega))
theorem xw_aa {post : Int32 → Prop} (hA : xw_A P D a_present a_types a_gates a_ends a_others) {a b t x k : Nat} {f : Nat → Nat} (ha : a < 2) (hb : b < 2) (ht : t < 3) (hx : x ≤ k) (hk : k < 6) (hch : ∀ i, i ≤ k → a_chosen i = nI (f i) ∧ f i < 6) (h1 : mt_agAt (xw_L P D a) (xw_L P D b) f t x k = true → post 1) (h0 : mt_agAt (xw_L P D a) (xw_L P D b) f t x k = false → post 0) : wpX_agreesAt post ((nI a), (nI b), f_pinnedNet, f_pinnedTo, f_found, a_present, a_types, a_gates, a_ends, a_others, a_names, a_marks, a_nextMarks, a_chosen, a_first, a_possible) (nI t) (nI x) (nI k) := by
  have hn : ∀ z : Bool, ¬ z = true → z = false := by decide
  by_cases h2 : t = 2
  · refine br_t (by rw [h2]; rfl) ⟨2, xw_aa15 (u := 0) hA ha hb ht hx hk (Nat.zero_le _) hch 1 0 rfl (fun h3 => h1 (mt_agAt_iff.mpr ?_)) (fun h3 => h0 (hn _ (fun h4 => h3 ?_)))⟩
    · rw [if_pos h2]
      exact ⟨fun g hg => h3.1 g (Nat.zero_le _) hg, h3.2⟩
    · have h5 := mt_agAt_iff.mp h4
      rw [if_pos h2] at h5
      exact ⟨fun g _ hg => h5.1 g hg, h5.2⟩
  · refine br_f (fun z => h2 ((nI_eq (b := 2) (by omega) (by decide)).mp z)) ⟨k + 2, xw_aa15 (u := k) hA ha hb ht hx hk (Nat.le_refl _) hch (k + 1) 0 (by omega) (fun h3 => h1 (mt_agAt_iff.mpr ?_)) (fun h3 => h0 (hn _ (fun h4 => h3 ?_)))⟩
    · rw [if_neg h2]
      exact ⟨fun g hg => h3.1 g (Nat.zero_le _) hg, h3.2⟩
    · have h5 := mt_agAt_iff.mp h4
      rw [if_neg h2] at h5
      exact ⟨fun g _ hg => h5.1 g hg, h5.2⟩
theorem xw_ag9 {post : Int32 → Prop} {J : Int32 → Prop} (hA : xw_A P D a_present a_types a_gates a_ends a_others) {a b t k : Nat} {f : Nat → Nat} (ha : a < 2) (hb : b < 2) (ht : t < 3) (hk : k < 6) (hch : ∀ i, i ≤ k → a_chosen i = nI (f i) ∧ f i < 6) : ∀ (n x : Nat), x + n = k + 1 → ((∀ x', x ≤ x' → x' ≤ k → mt_agAt (xw_L P D a) (xw_L P D b) f t x' k = true) → J (nI (t + 1))) → (∀ x', x' ≤ k → mt_agAt (xw_L P D a) (xw_L P D b) f t x' k = false → post 0) → wX_agrees_9 post J (nI k) (nI t) (nI a) (nI b) f_pinnedNet f_pinnedTo f_found a_present a_types a_gates a_ends a_others a_names a_marks a_nextMarks a_chosen a_first a_possible (n + 1) (nI x) := by
  intro n
  induction n with
  | zero =>
    intro x hx h1 _
    exact br_t (nI_lt (by omega) (by omega)) (nm_r (nI_1 t) (h1 (fun x' h2 h3 => absurd h3 (by omega))))
  | succ n ih =>
    intro x hx h1 h0
    refine br_f (nI_nlt (by omega) (by omega)) ?_
    refine xw_aa hA ha hb ht (by omega) hk hch (fun e => ?_) (fun e => br_t rfl (h0 x (by omega) e))
    refine br_f (by decide) (nm_r (nI_1 x) (ih (x + 1) (by omega) (fun h2 => h1 ?_) h0))
    intro x' h3 h4
    by_cases h5 : x' = x
    · rw [h5]; exact e
    · exact h2 x' (by omega) h4
theorem xw_ag2 {post : Int32 → Prop} (hA : xw_A P D a_present a_types a_gates a_ends a_others) {a b k : Nat} {f : Nat → Nat} (ha : a < 2) (hb : b < 2) (hk : k < 6) (hch : ∀ i, i ≤ k → a_chosen i = nI (f i) ∧ f i < 6) : ∀ (n t : Nat), t + n = 3 → ((∀ t', t ≤ t' → t' < 3 → ∀ x, x ≤ k → mt_agAt (xw_L P D a) (xw_L P D b) f t' x k = true) → post 1) → (∀ t' x, t' < 3 → x ≤ k → mt_agAt (xw_L P D a) (xw_L P D b) f t' x k = false → post 0) → wX_agrees_2 post (nI k) (nI a) (nI b) f_pinnedNet f_pinnedTo f_found a_present a_types a_gates a_ends a_others a_names a_marks a_nextMarks a_chosen a_first a_possible (n + 1) (nI t) := by
  intro n
  induction n with
  | zero =>
    intro t ht h1 _
    exact br_t (nI_le (a := 3) (by omega) (by omega)) (h1 (fun t' h2 h3 => absurd h3 (by omega)))
  | succ n ih =>
    intro t ht h1 h0
    refine br_f (nI_ge (b := 3) (by omega) (by decide)) ⟨k + 2, xw_ag9 hA ha hb (by omega) hk hch (k + 1) 0 (by omega) (fun h2 => ?_) (fun x' hx' e => h0 t x' (by omega) hx' e)⟩
    refine ih (t + 1) (by omega) (fun h3 => h1 ?_) h0
    intro t' h4 h5 x hx
    by_cases h6 : t' = t
    · rw [h6]; exact h2 x (Nat.zero_le _) hx
    · exact h3 t' (by omega) h5 x hx
theorem xw_ag {post : Int32 → Prop} (hA : xw_A P D a_present a_types a_gates a_ends a_others) {a b k : Nat} {f : Nat → Nat} (ha : a < 2) (hb : b < 2) (hk : k < 6) (hch : ∀ i, i ≤ k → a_chosen i = nI (f i) ∧ f i < 6) (h1 : mt_ag (xw_L P D a) (xw_L P D b) f k = true → post 1) (h0 : mt_ag (xw_L P D a) (xw_L P D b) f k = false → post 0) : wpX_agrees post ((nI a), (nI b), f_pinnedNet, f_pinnedTo, f_found, a_present, a_types, a_gates, a_ends, a_others, a_names, a_marks, a_nextMarks, a_chosen, a_first, a_possible) (nI k) := by
  refine ⟨4, xw_ag2 hA ha hb hk hch 3 0 rfl (fun h => h1 (mt_ag_iff.mpr (fun t ht x hx => h t (Nat.zero_le _) ht x hx))) (fun t x ht hx e => h0 ?_)⟩
  have hn : ∀ z : Bool, ¬ z = true → z = false := by decide
  exact hn _ (fun z => by rw [mt_ag_iff.mp z t ht x hx] at e; exact absurd e (by decide))
/-- a net that nextNet takes -/
def xw_ok (U l a b : Nat) (pn pt : Int32) (a_names a_marks : Nat → Int32) (j : Nat) : Prop := U.testBit j = false ∧ (nI l = pn → nI j = pt) ∧ a_names (6 * a + l) = a_names (6 * b + j) ∧ a_marks (6 * a + l) = a_marks (6 * b + j)
theorem xw_nn63 {post : Int32 → Prop} {J : Int32 → Prop} {x1 x3 x4 x6 : Int32} {j : Nat} (h : J (nI (j + 1))) : wX_nextNet_63 post J x1 x3 x4 (nI j) x6 f_one f_other f_pinnedNet f_pinnedTo f_found a_present a_types a_gates a_ends a_others a_names a_marks a_nextMarks a_chosen a_first a_possible := br_t rfl (nm_r (nI_1 j) h)
theorem xw_nn59 {post : Int32 → Prop} {J : Int32 → Prop} {x1 x3 : Int32} {a b l j : Nat} (ha : a < 2) (hb : b < 2) (hl : l < 6) (hj : j < 6) (h1 : a_names (6 * a + l) = a_names (6 * b + j) → a_marks (6 * a + l) = a_marks (6 * b + j) → post (nI j)) (h0 : ¬ (a_names (6 * a + l) = a_names (6 * b + j) ∧ a_marks (6 * a + l) = a_marks (6 * b + j)) → J (nI (j + 1))) : wX_nextNet_59 post J x1 x3 (nI (6 * a + l)) (nI j) (nI (6 * b + j)) f_one f_other f_pinnedNet f_pinnedTo f_found a_present a_types a_gates a_ends a_others a_names a_marks a_nextMarks a_chosen a_first a_possible := by
  have i1 : vp_in (nI (6 * a + l)) 12 := vp_in_nI (by omega) (by decide)
  have i2 : vp_in (nI (6 * b + j)) 12 := vp_in_nI (by omega) (by decide)
  have c1 : (nI (6 * a + l)).toNatClampNeg = 6 * a + l := nI_clamp (by omega)
  have c2 : (nI (6 * b + j)).toNatClampNeg = 6 * b + j := nI_clamp (by omega)
  refine br_f (by decide) ⟨i1, i2, ?_⟩
  rw [c1, c2]
  refine br_c (fun e1 => ⟨i1, i2, br_c (fun e2 => h1 e1 e2) (fun e2 => nm_r (nI_1 j) (h0 (fun z => e2 z.2)))⟩) (fun e1 => nm_r (nI_1 j) (h0 (fun z => e1 z.1)))
theorem xw_nn14 {post : Int32 → Prop} {a b l U : Nat} (ha : a < 2) (hb : b < 2) (hl : l < 6) (hU : U < 64) : ∀ (n j : Nat), j + n = 6 → (∀ i, j ≤ i → i < 6 → (∀ i', j ≤ i' → i' < i → ¬ xw_ok U l a b f_pinnedNet f_pinnedTo a_names a_marks i') → xw_ok U l a b f_pinnedNet f_pinnedTo a_names a_marks i → post (nI i)) → ((∀ i', j ≤ i' → i' < 6 → ¬ xw_ok U l a b f_pinnedNet f_pinnedTo a_names a_marks i') → post (-1)) → wX_nextNet_14 post (nI l) (nI U) (nI (6 * a + l)) (nI a) (nI b) f_pinnedNet f_pinnedTo f_found a_present a_types a_gates a_ends a_others a_names a_marks a_nextMarks a_chosen a_first a_possible (n + 1) (nI j) := by
  intro n
  induction n with
  | zero =>
    intro j hj _ h0
    exact br_t (nI_le (a := 6) (by omega) (by omega)) (h0 (fun i' h2 h3 => absurd h3 (by omega)))
  | succ n ih =>
    intro j hj h1 h0
    have hbit := ar_bit U (by omega) j (by omega)
    have K : ¬ xw_ok U l a b f_pinnedNet f_pinnedTo a_names a_marks j → wX_nextNet_14 post (nI l) (nI U) (nI (6 * a + l)) (nI a) (nI b) f_pinnedNet f_pinnedTo f_found a_present a_types a_gates a_ends a_others a_names a_marks a_nextMarks a_chosen a_first a_possible (n + 1) (nI (j + 1)) := by
      intro hne
      have hlow : ∀ i : Nat, (∀ i', j + 1 ≤ i' → i' < i → ¬ xw_ok U l a b f_pinnedNet f_pinnedTo a_names a_marks i') → ∀ i', j ≤ i' → i' < i → ¬ xw_ok U l a b f_pinnedNet f_pinnedTo a_names a_marks i' := by
        intro i h4 i' h5 h6
        by_cases h7 : i' = j
        · rw [h7]; exact hne
        · exact h4 i' (by omega) h6
      refine ih (j + 1) (by omega) (fun i h2 h3 h4 h5 => h1 i (by omega) h3 (hlow i h4) h5) (fun h4 => h0 (hlow 6 h4))
    have T : U.testBit j = false → (nI l = f_pinnedNet → nI j = f_pinnedTo) → wX_nextNet_59 post (wX_nextNet_14 post (nI l) (nI U) (nI (6 * a + l)) (nI a) (nI b) f_pinnedNet f_pinnedTo f_found a_present a_types a_gates a_ends a_others a_names a_marks a_nextMarks a_chosen a_first a_possible (n + 1)) (nI l) (nI U) (nI (6 * a + l)) (nI j) (nI (6 * b + j)) (nI a) (nI b) f_pinnedNet f_pinnedTo f_found a_present a_types a_gates a_ends a_others a_names a_marks a_nextMarks a_chosen a_first a_possible := by
      intro hu hp
      exact xw_nn59 ha hb hl (by omega) (fun e1 e2 => h1 j (Nat.le_refl _) (by omega) (fun i' h2 h3 => absurd h3 (by omega)) ⟨hu, hp, e1, e2⟩) (fun ne => K (fun z => ne ⟨z.2.2.1, z.2.2.2⟩))
    refine br_f (nI_ge (b := 6) (by omega) (by decide)) (nm_r (ar_c6 b j) ?_)
    refine br_c (fun hu => ?_) (fun hu => xw_nn63 (K (fun z => hu (hbit.mpr z.1))))
    refine br_c (fun e1 => br_c (fun e2 => T (hbit.mp hu) (fun _ => e2)) (fun e2 => xw_nn63 (K (fun z => e2 (z.2.1 e1))))) (fun e1 => T (hbit.mp hu) (fun z => absurd z e1))
theorem xw_nn {post : Int32 → Prop} {a b l U j : Nat} (ha : a < 2) (hb : b < 2) (hl : l < 6) (hU : U < 64) (hj : j ≤ 6) (h1 : ∀ i, j ≤ i → i < 6 → (∀ i', j ≤ i' → i' < i → ¬ xw_ok U l a b f_pinnedNet f_pinnedTo a_names a_marks i') → xw_ok U l a b f_pinnedNet f_pinnedTo a_names a_marks i → post (nI i)) (h0 : (∀ i', j ≤ i' → i' < 6 → ¬ xw_ok U l a b f_pinnedNet f_pinnedTo a_names a_marks i') → post (-1)) : wpX_nextNet post ((nI a), (nI b), f_pinnedNet, f_pinnedTo, f_found, a_present, a_types, a_gates, a_ends, a_others, a_names, a_marks, a_nextMarks, a_chosen, a_first, a_possible) (nI l) (nI j) (nI U) :=
  nm_r (ar_c6 a l) ⟨6 - j + 1, xw_nn14 ha hb hl hU (6 - j) j (by omega) h1 h0⟩
end
end
section
/-! the component's note and mark -/
def mt_pos (N : List (List Nat)) (i : Nat) : Nat := N.foldl (fun s q => s ||| 2 ^ (mt_fn q i)) 0
theorem mt_pos_app (N : List (List Nat)) (q : List Nat) (i : Nat) : mt_pos (N ++ [q]) i = mt_pos N i ||| 2 ^ (mt_fn q i) := by
  unfold mt_pos
  rw [List.foldl_append]
  rfl
/-- what the notes of a list of assignments are -/
def xw_NT (N : List (List Nat)) (f_found : Int32) (a_first a_possible : Nat → Int32) : Prop := f_found = nI N.length ∧ (∀ i, i < 6 → ∀ q T, N = q :: T → a_first i = nI (mt_fn q i)) ∧ (∀ i, i < 6 → mt_pos N i < 64 ∧ a_possible i = nI (mt_pos N i))
theorem ar_ua (f : Nat → Int32) (k : Nat) (r : Int32) (i : Nat) : upd f k (f k + r) i = f i + (if i = k then r else 0) := by
  by_cases h : i = k
  · subst h
    rw [pk_us, if_pos rfl]
  · rw [pk_un h, if_neg h, Int32.add_zero]
section
variable {f_one f_other f_pinnedNet f_pinnedTo f_found : Int32} {a_present a_types a_gates a_ends a_others a_names a_marks a_nextMarks a_chosen a_first a_possible : Nat → Int32}
variable {P : Nat → Nat} {D : Nat → MtDV}
theorem xw_note27 {post : SX → Prop} {J : Int32 → (Nat → Int32) → (Nat → Int32) → (Nat → Int32) → (Nat → Int32) → (Nat → Int32) → (Nat → Int32) → (Nat → Int32) → (Nat → Int32) → (Nat → Int32) → (Nat → Int32) → (Nat → Int32) → Prop} {i v c : Nat} (hi : i < 6) (hv : a_possible i = nI v) (hv2 : v < 64) (hc : a_chosen i = nI c) (hc2 : c < 6) (h : J (nI (i + 1)) a_present a_types a_gates a_ends a_others a_names a_marks a_nextMarks a_chosen a_first (upd a_possible i (nI (v ||| 2 ^ c)))) : wX_note_27 post J (nI i) f_one f_other f_pinnedNet f_pinnedTo f_found a_present a_types a_gates a_ends a_others a_names a_marks a_nextMarks a_chosen a_first a_possible := by
  have e : upd a_possible (nI i).toNatClampNeg (vp_nar .byte (((a_possible (nI i).toNatClampNeg) ||| ((1 : Int32) <<< ((a_chosen (nI i).toNatClampNeg) &&& 31))).toInt8.toInt32)) = upd a_possible i (nI (v ||| 2 ^ c)) := by
    rw [nI_clamp (by omega), hv, hc, ar_or v (by omega) c (by omega), ar_nar8 (ar_or_lt v (by omega) c (by omega))]
  exact ⟨vp_in_nI hi (by decide), vp_in_nI (by omega) (by decide), vp_in_nI hi (by decide), nm_r e (nm_r (nI_1 i) h)⟩
theorem xw_note2 {post : SX → Prop} {q : List Nat} {m : Nat} (hq : ∀ i, i < 6 → a_chosen i = nI (mt_fn q i) ∧ mt_fn q i < 6) (hm : m < 2 ^ 31) (po : Nat → Nat) : ∀ (n i : Nat) (fi pp : Nat → Int32), i + n = 6 → (∀ i', i ≤ i' → i' < 6 → pp i' = nI (po i') ∧ po i' < 64) → (∀ fi' pp' : Nat → Int32, (∀ i', i' < i → fi' i' = fi i' ∧ pp' i' = pp i') → (∀ i', i ≤ i' → i' < 6 → fi' i' = (if m = 0 then nI (mt_fn q i') else fi i') ∧ pp' i' = nI (po i' ||| 2 ^ (mt_fn q i'))) → post (f_one, f_other, f_pinnedNet, f_pinnedTo, (nI (m + 1)), a_present, a_types, a_gates, a_ends, a_others, a_names, a_marks, a_nextMarks, a_chosen, fi', pp')) → wX_note_2 post f_one f_other f_pinnedNet f_pinnedTo (nI m) (n + 1) (nI i) a_present a_types a_gates a_ends a_others a_names a_marks a_nextMarks a_chosen fi pp := by
  intro n
  induction n with
  | zero =>
    intro i fi pp hi _ h
    exact br_t (nI_le (a := 6) (by omega) (by omega)) (nm_r (nI_1 m) (h fi pp (fun _ _ => ⟨rfl, rfl⟩) (fun i' h1 h2 => absurd h2 (by omega))))
  | succ n ih =>
    intro i fi pp hi hp h
    have hi6 : i < 6 := by omega
    have K : ∀ fi2 : Nat → Int32, fi2 i = (if m = 0 then nI (mt_fn q i) else fi i) → (∀ i', i' ≠ i → fi2 i' = fi i') → wX_note_2 post f_one f_other f_pinnedNet f_pinnedTo (nI m) (n + 1) (nI (i + 1)) a_present a_types a_gates a_ends a_others a_names a_marks a_nextMarks a_chosen fi2 (upd pp i (nI (po i ||| 2 ^ (mt_fn q i)))) := by
      intro fi2 g1 g2
      refine ih (i + 1) fi2 _ (by omega) (fun i' h1 h2 => ?_) (fun fi' pp' h1 h2 => h fi' pp' (fun i' h3 => ?_) (fun i' h3 h4 => ?_))
      · rw [pk_un (by omega)]
        exact hp i' (by omega) h2
      · have h5 := h1 i' (by omega)
        rw [g2 i' (by omega), pk_un (by omega)] at h5
        exact h5
      · by_cases h5 : i' = i
        · subst h5
          have h6 := h1 i' (by omega)
          rw [g1, pk_us] at h6
          exact h6
        · have h6 := h2 i' (by omega) h4
          rw [g2 i' h5] at h6
          exact h6
    refine br_f (nI_ge (b := 6) (by omega) (by decide)) ?_
    refine pk_eq m 0 (fun e => ⟨vp_in_nI (by omega) (by decide), vp_in_nI hi6 (by decide), ?_⟩) (fun ne => ?_)
    · have e2 : upd fi (nI i).toNatClampNeg (vp_nar .byte (a_chosen (nI i).toNatClampNeg)) = upd fi i (nI (mt_fn q i)) := by
        have := (hq i hi6).2
        rw [nI_clamp (by omega), (hq i hi6).1, ar_nar (by omega)]
      refine nm_r e2 (xw_note27 hi6 (hp i (Nat.le_refl _) hi6).1 (hp i (Nat.le_refl _) hi6).2 (hq i hi6).1 (hq i hi6).2 (K _ ?_ ?_))
      · rw [pk_us, if_pos e]
      · intro i' h1
        rw [pk_un h1]
    · refine xw_note27 hi6 (hp i (Nat.le_refl _) hi6).1 (hp i (Nat.le_refl _) hi6).2 (hq i hi6).1 (hq i hi6).2 (K _ ?_ ?_)
      · rw [if_neg ne]
      · intro i' _
        rfl
theorem xw_note {post : SX → Prop} {q : List Nat} {N : List (List Nat)} (hq : ∀ i, i < 6 → a_chosen i = nI (mt_fn q i) ∧ mt_fn q i < 6) (hN : N.length < 2 ^ 30) (h0 : xw_NT N f_found a_first a_possible) (h : ∀ (fo : Int32) (fi pp : Nat → Int32), xw_NT (N ++ [q]) fo fi pp → post (f_one, f_other, f_pinnedNet, f_pinnedTo, fo, a_present, a_types, a_gates, a_ends, a_others, a_names, a_marks, a_nextMarks, a_chosen, fi, pp)) : wpX_note post (f_one, f_other, f_pinnedNet, f_pinnedTo, f_found, a_present, a_types, a_gates, a_ends, a_others, a_names, a_marks, a_nextMarks, a_chosen, a_first, a_possible) := by
  obtain ⟨rfl, h2, h3⟩ := h0
  refine ⟨7, xw_note2 hq (by omega) (mt_pos N) 6 0 a_first a_possible rfl (fun i _ h4 => ⟨(h3 i h4).2, (h3 i h4).1⟩) (fun fi pp _ h5 => h _ fi pp ⟨?_, ?_, ?_⟩)⟩
  · rw [List.length_append]
    rfl
  · intro i hi q' T e
    have h6 := (h5 i (Nat.zero_le _) hi).1
    cases N with
    | nil =>
      have e2 : q = q' := (List.cons.inj e).1
      rw [h6, if_pos List.length_nil, e2]
    | cons p N =>
      have e2 : p = q' := (List.cons.inj e).1
      rw [if_neg (by rw [List.length_cons]; omega)] at h6
      rw [h6, h2 i hi p N rfl, e2]
  · intro i hi
    rw [mt_pos_app]
    exact ⟨ar_or_lt6 _ (h3 i hi).1 _ (hq i hi).2, (h5 i (Nat.zero_le _) hi).2⟩
theorem xw_mix {post : Int32 → Prop} {a b : Int32} (h : post (mt_mix a b)) : wpX_mix post a b := by
  intro x ex
  subst ex
  exact h
theorem xw_mixTwice {post : Int32 → Prop} {a b : Int32} (h : post (mt_mix (a * b) 99)) : wpX_mixTwice post a b := xw_mix h
theorem xw_s68 {post : SX → Prop} {q t g x y : Nat} {X Y Z : Int32} (hq : q < 14) (ht : t < 3) (hg : g < 6) (hx : x < 6) (hy : y < 6) (hE : a_ends q = nI x) (hO : a_others q = nI y) (hG : a_gates q = nI g) (h : ∀ nx : Nat → Int32, (∀ i, i < 6 → nx i = a_nextMarks i + ((if i = x then mt_mix Y (mt_mix Z (nI t)) else 0) + (if i = y then mt_mix X (mt_mix Z (nI t)) else 0) + (if t ≠ 2 ∧ i = g then mt_mix (X + Y) (mt_mix (X * Y) 99) else 0))) → post (f_one, f_other, f_pinnedNet, f_pinnedTo, f_found, a_present, a_types, a_gates, a_ends, a_others, a_names, a_marks, nx, a_chosen, a_first, a_possible)) : wX_spread_68 post (nI q) (nI t) X Y Z f_one f_other f_pinnedNet f_pinnedTo f_found a_present a_types a_gates a_ends a_others a_names a_marks a_nextMarks a_chosen a_first a_possible := by
  have hin : vp_in (nI q) 14 := vp_in_nI hq (by decide)
  have hcl : (nI q).toNatClampNeg = q := nI_clamp (by omega)
  have ix : vp_in (nI x) 12 := vp_in_nI (by omega) (by decide)
  have iy : vp_in (nI y) 12 := vp_in_nI (by omega) (by decide)
  have ig : vp_in (nI g) 12 := vp_in_nI (by omega) (by decide)
  have cx : (nI x).toNatClampNeg = x := nI_clamp (by omega)
  have cy : (nI y).toNatClampNeg = y := nI_clamp (by omega)
  have cg : (nI g).toNatClampNeg = g := nI_clamp (by omega)
  unfold wX_spread_68
  rw [hcl, hE, hO, hG, cx, cy, cg]
  refine xw_mix (xw_mixTwice ⟨hin, ix, xw_mix ⟨ix, nm_e ⟨hin, iy, xw_mix ⟨iy, nm_e ?_⟩⟩⟩⟩)
  refine pk_eq t 2 (fun e => h _ ?_) (fun ne => ⟨hin, ig, xw_mix ⟨ig, nm_e (h _ ?_)⟩⟩)
  · intro i _
    rw [ar_ua, ar_ua, if_neg (c := t ≠ 2 ∧ i = g) (fun z => z.1 e), Int32.add_zero, Int32.add_assoc]
  · intro i _
    rw [ar_ua, ar_ua, ar_ua]
    have e3 : (if t ≠ 2 ∧ i = g then mt_mix (X + Y) (mt_mix (X * Y) 99) else (0 : Int32)) = (if i = g then mt_mix (X + Y) (mt_mix (X * Y) 99) else 0) := mt_if ⟨fun z => z.2, fun z => ⟨ne, z⟩⟩ (fun _ => rfl)
    rw [e3, Int32.add_assoc, Int32.add_assoc, Int32.add_assoc]
theorem xw_spread {post : SX → Prop} (hA : xw_A P D a_present a_types a_gates a_ends a_others) {c d : Nat} (hc : c < 2) (hd : d < 7) {m : Nat → Int32} (hm : ∀ i, i < 6 → a_marks (6 * c + i) = m i) (h : ∀ nx : Nat → Int32, (∀ i, i < 6 → nx i = a_nextMarks i + mt_con m (D (7 * c + d)) i) → post (f_one, f_other, f_pinnedNet, f_pinnedTo, f_found, a_present, a_types, a_gates, a_ends, a_others, a_names, a_marks, nx, a_chosen, a_first, a_possible)) : wpX_spread post (f_one, f_other, f_pinnedNet, f_pinnedTo, f_found, a_present, a_types, a_gates, a_ends, a_others, a_names, a_marks, a_nextMarks, a_chosen, a_first, a_possible) (nI c) (nI (7 * c + d)) := by
  have hq : 7 * c + d < 14 := by omega
  obtain ⟨ok, hT, hGt, hE, hO⟩ := hA.2 _ hq
  have hin : vp_in (nI (7 * c + d)) 14 := vp_in_nI hq (by decide)
  have hcl : (nI (7 * c + d)).toNatClampNeg = 7 * c + d := nI_clamp (by omega)
  have hb1 : (D (7 * c + d)).1 < 3 := ok.1
  have hb2 : (D (7 * c + d)).2.1 < 6 := ok.2.1
  have hb3 : (D (7 * c + d)).2.2.1 < 6 := Nat.lt_of_le_of_lt ok.2.2.1 ok.2.2.2.1
  have hb4 : (D (7 * c + d)).2.2.2 < 6 := ok.2.2.2.1
  have i2 : ∀ x, x < 6 → vp_in (nI (6 * c + x)) 12 := fun x hx => vp_in_nI (by omega) (by decide)
  have c2 : ∀ x, x < 6 → (nI (6 * c + x)).toNatClampNeg = 6 * c + x := fun x hx => nI_clamp (by omega)
  have e2 : ∀ x, x < 6 → a_marks (nI (6 * c + x)).toNatClampNeg = m x := fun x hx => by rw [c2 x hx, hm x hx]
  unfold wpX_spread
  dsimp only
  rw [hcl, hT, hE, hO, hGt, ar_c6, ar_c6, ar_c6]
  refine ⟨hin, nm_r rfl ⟨hin, i2 _ hb3, nm_r (e2 _ hb3) ⟨hin, i2 _ hb4, nm_r (e2 _ hb4) ?_⟩⟩⟩
  refine pk_eq (D (7 * c + d)).1 2 (fun e => ?_) (fun ne => ⟨hin, i2 _ hb2, ?_⟩)
  · refine xw_s68 hq hb1 hb2 hb3 hb4 hE hO hGt (fun nx hnx => h nx (fun i hi => ?_))
    rw [hnx i hi]
    unfold mt_con mt_aw
    rw [if_pos e]
  · rw [e2 _ hb2]
    refine xw_s68 hq hb1 hb2 hb3 hb4 hE hO hGt (fun nx hnx => h nx (fun i hi => ?_))
    rw [hnx i hi]
    unfold mt_con mt_aw
    rw [if_neg ne]
theorem xw_m119 {post : SX → Prop} {J : Int32 → Int32 → Int32 → Int32 → Int32 → Int32 → (Nat → Int32) → (Nat → Int32) → (Nat → Int32) → (Nat → Int32) → (Nat → Int32) → (Nat → Int32) → (Nat → Int32) → (Nat → Int32) → (Nat → Int32) → (Nat → Int32) → (Nat → Int32) → Prop} {c r : Nat} (hc : c < 2) : ∀ (n i : Nat) (mk : Nat → Int32), i + n = 6 → (∀ mk' : Nat → Int32, (∀ i', i' < i → mk' (6 * c + i') = mk (6 * c + i')) → (∀ i', i ≤ i' → i' < 6 → mk' (6 * c + i') = a_nextMarks i') → (∀ q, (q < 6 * c ∨ 6 * c + 6 ≤ q) → mk' q = mk q) → J (nI (r + 1)) f_one f_other f_pinnedNet f_pinnedTo f_found a_present a_types a_gates a_ends a_others a_names mk' a_nextMarks a_chosen a_first a_possible) → wX_mark_119 post J (nI c) (nI r) f_one f_other f_pinnedNet f_pinnedTo f_found (n + 1) (nI i) a_present a_types a_gates a_ends a_others a_names mk a_nextMarks a_chosen a_first a_possible := by
  intro n
  induction n with
  | zero =>
    intro i mk hi h
    exact br_t (nI_le (a := 6) (by omega) (by omega)) (nm_r (nI_1 r) (h mk (fun _ _ => rfl) (fun i' h1 h2 => absurd h2 (by omega)) (fun _ _ => rfl)))
  | succ n ih =>
    intro i mk hi h
    have e : upd mk ((nI c * 6) + nI i).toNatClampNeg (a_nextMarks (nI i).toNatClampNeg) = upd mk (6 * c + i) (a_nextMarks i) := by
      rw [ar_c6, nI_clamp (by omega), nI_clamp (by omega)]
    refine br_f (nI_ge (b := 6) (by omega) (by decide)) ⟨vp_in_nI (by omega) (by decide), by rw [ar_c6]; exact vp_in_nI (by omega) (by decide), nm_r e (nm_r (nI_1 i) ?_)⟩
    refine ih (i + 1) _ (by omega) (fun mk' h1 h2 h3 => h mk' (fun i' h4 => ?_) (fun i' h4 h5 => ?_) (fun q hq => ?_))
    · rw [h1 i' (by omega), pk_un (by omega)]
    · by_cases h6 : i' = i
      · subst h6
        rw [h1 i' (by omega), pk_us]
      · exact h2 i' (by omega) h5
    · rw [h3 q hq, pk_un (by omega)]
theorem xw_m85 {post : SX → Prop} {J : Int32 → Int32 → Int32 → Int32 → Int32 → Int32 → (Nat → Int32) → (Nat → Int32) → (Nat → Int32) → (Nat → Int32) → (Nat → Int32) → (Nat → Int32) → (Nat → Int32) → (Nat → Int32) → (Nat → Int32) → (Nat → Int32) → (Nat → Int32) → Prop} (hA : xw_A P D a_present a_types a_gates a_ends a_others) {c r : Nat} (hc : c < 2) {m : Nat → Int32} (hm : ∀ i, i < 6 → a_marks (6 * c + i) = m i) : ∀ (n d : Nat) (nx : Nat → Int32), d + n = 7 → (∀ nx' : Nat → Int32, (∀ i, i < 6 → nx' i = nx i + mt_sum (fun e => mt_con m e i) (((List.range' d n).filter (fun d => (P c).testBit d)).map (fun d => D (7 * c + d)))) → ∃ n119 : Nat, wX_mark_119 post J (nI c) (nI r) f_one f_other f_pinnedNet f_pinnedTo f_found n119 0 a_present a_types a_gates a_ends a_others a_names a_marks nx' a_chosen a_first a_possible) → wX_mark_85 post J (nI c) (nI r) (n + 1) (nI d) f_one f_other f_pinnedNet f_pinnedTo f_found a_present a_types a_gates a_ends a_others a_names a_marks nx a_chosen a_first a_possible := by
  intro n
  induction n with
  | zero =>
    intro d nx hd h
    exact br_t (nI_le (a := 7) (by omega) (by omega)) (h nx (fun i _ => (Int32.add_zero _).symm))
  | succ n ih =>
    intro d nx hd h
    refine br_f (nI_ge (b := 7) (by omega) (by decide)) (xw_has hA hc (by omega) (fun hb => ?_) (fun hb => ?_))
    · refine br_f (by decide) ?_
      rw [ar_c7]
      refine xw_spread hA hc (by omega) hm (fun nx1 h1 => ?_)
      refine nm_r (nI_1 d) (ih (d + 1) nx1 (by omega) (fun nx' h2 => h nx' (fun i hi => ?_)))
      rw [List.range'_succ, List.filter_cons_of_pos (by exact hb), List.map_cons, h2 i hi, h1 i hi, Int32.add_assoc]
      rfl
    · refine br_t rfl (nm_r (nI_1 d) (ih (d + 1) nx (by omega) (fun nx' h2 => h nx' (fun i hi => ?_))))
      rw [List.range'_succ, List.filter_cons_of_neg (by rw [hb]; decide), h2 i hi]
theorem xw_m50 {post : SX → Prop} {J : Int32 → Int32 → Int32 → Int32 → Int32 → Int32 → (Nat → Int32) → (Nat → Int32) → (Nat → Int32) → (Nat → Int32) → (Nat → Int32) → (Nat → Int32) → (Nat → Int32) → (Nat → Int32) → (Nat → Int32) → (Nat → Int32) → (Nat → Int32) → Prop} {c r : Nat} (hc : c < 2) : ∀ (n i : Nat) (nx : Nat → Int32), i + n = 6 → (∀ nx' : Nat → Int32, (∀ i', i' < i → nx' i' = nx i') → (∀ i', i ≤ i' → i' < 6 → nx' i' = mt_mix (a_marks (6 * c + i')) 1) → ∃ n85 : Nat, wX_mark_85 post J (nI c) (nI r) n85 0 f_one f_other f_pinnedNet f_pinnedTo f_found a_present a_types a_gates a_ends a_others a_names a_marks nx' a_chosen a_first a_possible) → wX_mark_50 post J (nI c) (nI r) f_one f_other f_pinnedNet f_pinnedTo f_found (n + 1) (nI i) a_present a_types a_gates a_ends a_others a_names a_marks nx a_chosen a_first a_possible := by
  intro n
  induction n with
  | zero =>
    intro i nx hi h
    exact br_t (nI_le (a := 6) (by omega) (by omega)) (h nx (fun _ _ => rfl) (fun i' h1 h2 => absurd h2 (by omega)))
  | succ n ih =>
    intro i nx hi h
    refine br_f (nI_ge (b := 6) (by omega) (by decide)) ?_
    rw [ar_c6, nI_clamp (n := 6 * c + i) (by omega)]
    refine ⟨vp_in_nI (by omega) (by decide), xw_mix ⟨vp_in_nI (by omega) (by decide), ?_⟩⟩
    rw [nI_clamp (n := i) (by omega)]
    refine nm_e (nm_r (nI_1 i) (ih (i + 1) _ (by omega) (fun nx' h1 h2 => h nx' (fun i' h3 => ?_) (fun i' h3 h4 => ?_))))
    · rw [h1 i' (by omega), pk_un (by omega)]
    · by_cases h6 : i' = i
      · subst h6
        rw [h1 i' (by omega), pk_us]
      · exact h2 i' (by omega) h4
theorem xw_m42 {post : SX → Prop} (hA : xw_A P D a_present a_types a_gates a_ends a_others) {c : Nat} (hc : c < 2) {nn : Nat → Int32} : ∀ (n r : Nat) (mk nx : Nat → Int32), r + n = 6 → (∀ i, i < 6 → mk (6 * c + i) = mt_mk (xw_L P D c) nn r i) → (∀ mk' nx' : Nat → Int32, (∀ i, i < 6 → mk' (6 * c + i) = mt_mk (xw_L P D c) nn 6 i) → (∀ q, (q < 6 * c ∨ 6 * c + 6 ≤ q) → mk' q = mk q) → post (f_one, f_other, f_pinnedNet, f_pinnedTo, f_found, a_present, a_types, a_gates, a_ends, a_others, a_names, mk', nx', a_chosen, a_first, a_possible)) → wX_mark_42 post (nI c) (n + 1) (nI r) f_one f_other f_pinnedNet f_pinnedTo f_found a_present a_types a_gates a_ends a_others a_names mk nx a_chosen a_first a_possible := by
  intro n
  induction n with
  | zero =>
    intro r mk nx hr hm h
    have hr6 : r = 6 := by omega
    subst hr6
    exact br_t (nI_le (a := 6) (by omega) (by omega)) (h mk nx hm (fun _ _ => rfl))
  | succ n ih =>
    intro r mk nx hr hm h
    refine br_f (nI_ge (b := 6) (by omega) (by decide)) ⟨7, xw_m50 hc 6 0 nx rfl (fun nx1 _ h1 => ⟨8, xw_m85 hA hc hm 7 0 nx1 rfl (fun nx2 h2 => ⟨7, xw_m119 hc 6 0 mk rfl (fun mk2 _ h3 h4 => ?_)⟩)⟩)⟩
    refine ih (r + 1) mk2 nx2 (by omega) (fun i hi => ?_) (fun mk' nx' h5 h6 => h mk' nx' h5 (fun q hq => (h6 q hq).trans (h4 q hq)))
    rw [h3 i (Nat.zero_le _) hi, h2 i hi, h1 i (Nat.zero_le _) hi, hm i hi]
    rfl
theorem xw_m2 {post : SX → Prop} {c : Nat} (hc : c < 2) : ∀ (n i : Nat) (mk : Nat → Int32), i + n = 6 → (∀ mk' : Nat → Int32, (∀ i', i' < i → mk' (6 * c + i') = mk (6 * c + i')) → (∀ i', i ≤ i' → i' < 6 → mk' (6 * c + i') = mt_mix (a_names (6 * c + i')) 5) → (∀ q, (q < 6 * c ∨ 6 * c + 6 ≤ q) → mk' q = mk q) → ∃ n42 : Nat, wX_mark_42 post (nI c) n42 0 f_one f_other f_pinnedNet f_pinnedTo f_found a_present a_types a_gates a_ends a_others a_names mk' a_nextMarks a_chosen a_first a_possible) → wX_mark_2 post (nI c) f_one f_other f_pinnedNet f_pinnedTo f_found (n + 1) (nI i) a_present a_types a_gates a_ends a_others a_names mk a_nextMarks a_chosen a_first a_possible := by
  intro n
  induction n with
  | zero =>
    intro i mk hi h
    exact br_t (nI_le (a := 6) (by omega) (by omega)) (h mk (fun _ _ => rfl) (fun i' h1 h2 => absurd h2 (by omega)) (fun _ _ => rfl))
  | succ n ih =>
    intro i mk hi h
    refine br_f (nI_ge (b := 6) (by omega) (by decide)) ?_
    rw [ar_c6, nI_clamp (n := 6 * c + i) (by omega)]
    refine ⟨vp_in_nI (by omega) (by decide), xw_mix ⟨vp_in_nI (by omega) (by decide), nm_e (nm_r (nI_1 i) ?_)⟩⟩
    refine ih (i + 1) _ (by omega) (fun mk' h1 h2 h3 => h mk' (fun i' h4 => ?_) (fun i' h4 h5 => ?_) (fun q hq => ?_))
    · rw [h1 i' (by omega), pk_un (by omega)]
    · by_cases h6 : i' = i
      · subst h6
        rw [h1 i' (by omega), pk_us]
      · exact h2 i' (by omega) h5
    · rw [h3 q hq, pk_un (by omega)]
theorem xw_mark {post : SX → Prop} (hA : xw_A P D a_present a_types a_gates a_ends a_others) {c : Nat} (hc : c < 2) (h : ∀ mk nx : Nat → Int32, (∀ i, i < 6 → mk (6 * c + i) = mt_mk (xw_L P D c) (fun i => a_names (6 * c + i)) 6 i) → (∀ q, (q < 6 * c ∨ 6 * c + 6 ≤ q) → mk q = a_marks q) → post (f_one, f_other, f_pinnedNet, f_pinnedTo, f_found, a_present, a_types, a_gates, a_ends, a_others, a_names, mk, nx, a_chosen, a_first, a_possible)) : wpX_mark post (f_one, f_other, f_pinnedNet, f_pinnedTo, f_found, a_present, a_types, a_gates, a_ends, a_others, a_names, a_marks, a_nextMarks, a_chosen, a_first, a_possible) (nI c) :=
  ⟨7, xw_m2 hc 6 0 a_marks rfl (fun mk1 _ h1 h2 => ⟨7, xw_m42 hA hc 6 0 mk1 a_nextMarks rfl (fun i hi => h1 i (Nat.zero_le _) hi) (fun mk nx h3 h4 => h mk nx h3 (fun q hq => (h4 q hq).trans (h2 q hq)))⟩)⟩
end
end
section
/-! the component's search: one round -/
section
variable {f_one f_other f_pinnedNet f_pinnedTo f_found : Int32} {a_present a_types a_gates a_ends a_others a_names a_marks a_nextMarks a_chosen a_first a_possible : Nat → Int32}
variable {P : Nat → Nat} {D : Nat → MtDV}
theorem xw_168n {post : SX → Prop} {J : Int32 → Int32 → Int32 → Int32 → Int32 → Int32 → Int32 → Int32 → (Nat → Int32) → (Nat → Int32) → (Nat → Int32) → (Nat → Int32) → (Nat → Int32) → (Nat → Int32) → (Nat → Int32) → (Nat → Int32) → (Nat → Int32) → (Nat → Int32) → (Nat → Int32) → Prop} (hA : xw_A P D a_present a_types a_gates a_ends a_others) {a b l r : Nat} {x4 : Int32} {f : Nat → Nat} (ha : a < 2) (hb : b < 2) (hl : l < 6) (hch : ∀ i, i ≤ l → a_chosen i = nI (f i) ∧ f i < 6) (hag : mt_ag (xw_L P D a) (xw_L P D b) f l = false) (h : J (nI l) x4 (nI (r + 1)) (nI a) (nI b) f_pinnedNet f_pinnedTo f_found a_present a_types a_gates a_ends a_others a_names a_marks a_nextMarks a_chosen a_first a_possible) : wX_search_168 post J (nI l) x4 (nI r) (nI a) (nI b) f_pinnedNet f_pinnedTo f_found a_present a_types a_gates a_ends a_others a_names a_marks a_nextMarks a_chosen a_first a_possible := by
  refine pk_le 5 l (fun _ => nm_r (nI_1 r) h) (fun _ => ?_)
  refine xw_ag hA ha hb hl hch (fun e => absurd (e.symm.trans hag) (by decide)) (fun _ => br_t rfl (nm_r (nI_1 r) h))
theorem xw_168y {post : SX → Prop} {J : Int32 → Int32 → Int32 → Int32 → Int32 → Int32 → Int32 → Int32 → (Nat → Int32) → (Nat → Int32) → (Nat → Int32) → (Nat → Int32) → (Nat → Int32) → (Nat → Int32) → (Nat → Int32) → (Nat → Int32) → (Nat → Int32) → (Nat → Int32) → (Nat → Int32) → Prop} (hA : xw_A P D a_present a_types a_gates a_ends a_others) {a b l r : Nat} {x4 : Int32} {f : Nat → Nat} (ha : a < 2) (hb : b < 2) (hl : l < 5) (hch : ∀ i, i ≤ l → a_chosen i = nI (f i) ∧ f i < 6) (hag : mt_ag (xw_L P D a) (xw_L P D b) f l = true) (h : J (nI (l + 1)) x4 (nI (r + 1)) (nI a) (nI b) f_pinnedNet f_pinnedTo f_found a_present a_types a_gates a_ends a_others a_names a_marks a_nextMarks (upd a_chosen (l + 1) (-1)) a_first a_possible) : wX_search_168 post J (nI l) x4 (nI r) (nI a) (nI b) f_pinnedNet f_pinnedTo f_found a_present a_types a_gates a_ends a_others a_names a_marks a_nextMarks a_chosen a_first a_possible := by
  refine br_f (nI_ge (b := 5) hl (by decide)) ?_
  refine xw_ag hA ha hb (by omega) hch (fun _ => ?_) (fun e => absurd (hag.symm.trans e) (by decide))
  refine br_f (by decide) (nm_r (nI_1 l) ⟨vp_in_nI (by omega) (by decide), ?_⟩)
  rw [nI_clamp (by omega), ar_narM]
  exact nm_e (nm_r (nI_1 r) h)
theorem xw_rnd {post : SX → Prop} (hA : xw_A P D a_present a_types a_gates a_ends a_others) {a b : Nat} (ha : a < 2) (hb : b < 2) {cand : Nat → Nat → Bool} (hcand : ∀ U l j, l < 6 → j < 6 → (xw_ok U l a b f_pinnedNet f_pinnedTo a_names a_marks j ↔ U.testBit j = false ∧ cand l j = true)) {n l r U j : Nat} {p : List Nat} {N : List (List Nat)} (hl : l < 6) (hpl : p.length = l) (hp6 : ∀ i, i < l → mt_fn p i < 6) (hj : j ≤ 6) (hr : r < 8192) (hU : U < 64) (hUb : ∀ i, i < 6 → U.testBit i = (p.contains i || (decide (0 < j) && decide (i + 1 = j)))) (hjp : 0 < j → p.contains (j - 1) = false) (hch : ∀ i, i < l → a_chosen i = nI (mt_fn p i)) (hcl : a_chosen l = nI j + (-1)) (hNT : xw_NT N f_found a_first a_possible) (hN : N.length ≤ r)
  (hnone : ∀ U', U' < 64 → (∀ i, i < 6 → U'.testBit i = p.contains i) → (∀ i', j ≤ i' → i' < 6 → p.contains i' = true ∨ cand l i' = false) → wX_search_66 post n (nI l + (-1)) (nI U') (nI (r + 1)) (nI a) (nI b) f_pinnedNet f_pinnedTo f_found a_present a_types a_gates a_ends a_others a_names a_marks a_nextMarks (upd a_chosen l (-1)) a_first a_possible)
  (hfail : ∀ U' i, U' < 64 → (∀ x, x < 6 → U'.testBit x = (p ++ [i]).contains x) → j ≤ i → i < 6 → (∀ i', j ≤ i' → i' < i → p.contains i' = true ∨ cand l i' = false) → p.contains i = false → cand l i = true → mt_ag (xw_L P D a) (xw_L P D b) (mt_fn (p ++ [i])) l = false → wX_search_66 post n (nI l) (nI U') (nI (r + 1)) (nI a) (nI b) f_pinnedNet f_pinnedTo f_found a_present a_types a_gates a_ends a_others a_names a_marks a_nextMarks (upd a_chosen l (nI i)) a_first a_possible)
  (hleaf : ∀ U' i, U' < 64 → (∀ x, x < 6 → U'.testBit x = (p ++ [i]).contains x) → j ≤ i → i < 6 → (∀ i', j ≤ i' → i' < i → p.contains i' = true ∨ cand l i' = false) → p.contains i = false → cand l i = true → mt_ag (xw_L P D a) (xw_L P D b) (mt_fn (p ++ [i])) l = true → l = 5 → ∀ (fo : Int32) (fi pp : Nat → Int32), xw_NT (N ++ [p ++ [i]]) fo fi pp → wX_search_66 post n (nI l) (nI U') (nI (r + 1)) (nI a) (nI b) f_pinnedNet f_pinnedTo fo a_present a_types a_gates a_ends a_others a_names a_marks a_nextMarks (upd a_chosen l (nI i)) fi pp)
  (hdeep : ∀ U' i, U' < 64 → (∀ x, x < 6 → U'.testBit x = (p ++ [i]).contains x) → j ≤ i → i < 6 → (∀ i', j ≤ i' → i' < i → p.contains i' = true ∨ cand l i' = false) → p.contains i = false → cand l i = true → mt_ag (xw_L P D a) (xw_L P D b) (mt_fn (p ++ [i])) l = true → l < 5 → wX_search_66 post n (nI (l + 1)) (nI U') (nI (r + 1)) (nI a) (nI b) f_pinnedNet f_pinnedTo f_found a_present a_types a_gates a_ends a_others a_names a_marks a_nextMarks (upd (upd a_chosen l (nI i)) (l + 1) (-1)) a_first a_possible) :
  wX_search_66 post (n + 1) (nI l) (nI U) (nI r) (nI a) (nI b) f_pinnedNet f_pinnedTo f_found a_present a_types a_gates a_ends a_others a_names a_marks a_nextMarks a_chosen a_first a_possible := by
  have hbn : ∀ z : Bool, ¬ z = true → z = false := by decide
  have H : ∀ U1, U1 < 64 → (∀ i, i < 6 → U1.testBit i = p.contains i) → wX_search_102 post (wX_search_66 post n) (nI l) (nI U1) (nI r) (nI a) (nI b) f_pinnedNet f_pinnedTo f_found a_present a_types a_gates a_ends a_others a_names a_marks a_nextMarks a_chosen a_first a_possible := by
    intro U1 hU1 hUb1
    have hno : ∀ i', i' < 6 → ¬ xw_ok U1 l a b f_pinnedNet f_pinnedTo a_names a_marks i' → p.contains i' = true ∨ cand l i' = false := by
      intro i' hi' hne
      rw [hcand U1 l i' hl hi'] at hne
      by_cases hc : p.contains i' = true
      · exact Or.inl hc
      · refine Or.inr (hbn _ (fun z => hne ⟨?_, z⟩))
        rw [hUb1 i' hi']
        exact hbn _ hc
    refine ⟨vp_in_nI (by omega) (by decide), ?_⟩
    rw [nI_clamp (n := l) (by omega), hcl, ar_pm]
    refine xw_nn ha hb hl hU1 hj (fun i h1 h2 h3 h4 => ⟨vp_in_nI (by omega) (by decide), ?_⟩) (fun h5 => ⟨vp_in_nI (by omega) (by decide), ?_⟩)
    · rw [ar_nar8 (p := i) (by omega)]
      have h4' := (hcand U1 l i hl h2).mp h4
      have hpc : p.contains i = false := by rw [← hUb1 i h2]; exact h4'.1
      have hsk : ∀ i', j ≤ i' → i' < i → p.contains i' = true ∨ cand l i' = false := fun i' g1 g2 => hno i' (by omega) (h3 i' g1 g2)
      have hU2 : U1 ||| 2 ^ i < 64 := ar_or_lt6 U1 hU1 i h2
      have hUb2 : ∀ x, x < 6 → (U1 ||| 2 ^ i).testBit x = (p ++ [i]).contains x := by
        intro x hx
        rw [ar_or_tb, hUb1 x hx, List.contains_append]
        congr 1
        simp [eq_comm]
      have hch2 : ∀ x, x ≤ l → upd a_chosen l (nI i) x = nI (mt_fn (p ++ [i]) x) ∧ mt_fn (p ++ [i]) x < 6 := by
        intro x hx
        by_cases hxl : x = l
        · subst hxl
          rw [pk_us, ← hpl, mt_fn_last]
          exact ⟨rfl, h2⟩
        · rw [pk_un hxl, mt_fn_app p [i] (by omega), hch x (by omega)]
          exact ⟨rfl, hp6 x (by omega)⟩
      refine nm_e (br_t (nI_pos' (by omega)) (nm_r (ar_or U1 (by omega) i (by omega)) ?_))
      refine xw_ag hA ha hb hl hch2 (fun e => br_f (by decide) ?_) (fun e => br_t rfl (xw_168n hA ha hb hl hch2 e (hfail _ i hU2 hUb2 h1 h2 hsk hpc h4'.2 e)))
      refine pk_eq l 5 (fun e5 => ?_) (fun ne5 => xw_168y hA ha hb (by omega) hch2 e (hdeep _ i hU2 hUb2 h1 h2 hsk hpc h4'.2 e (by omega)))
      refine xw_note (q := p ++ [i]) (N := N) (fun x hx => hch2 x (by omega)) (by omega) hNT (fun fo fi pp hnt => ?_)
      exact nm_r (nI_1 r) (hleaf _ i hU2 hUb2 h1 h2 hsk hpc h4'.2 e e5 fo fi pp hnt)
    · rw [ar_m18, ar_narM]
      exact nm_e (br_f ar_m1le (nm_e (nm_r (nI_1 r) (hnone U1 hU1 hUb1 (fun i' g1 g2 => hno i' g2 (h5 i' g1 g2))))))
  refine br_f (nI_ge (b := 8192) hr (by decide)) (br_f (nI_pos (by omega)) ⟨vp_in_nI (by omega) (by decide), ?_⟩)
  rw [nI_clamp (n := l) (by omega), hcl]
  cases j with
  | zero =>
    refine br_t (by decide) (H U hU (fun i hi => ?_))
    rw [hUb i hi]
    simp
  | succ j0 =>
    rw [pk_m1]
    refine br_f (nI_pos (by omega)) ⟨vp_in_nI (by omega) (by decide), nm_r (ar_clr U (by omega) j0 (by omega)) (H _ (ar_clr_lt6 U hU j0 (by omega)) (fun i hi => ?_))⟩
    rw [ar_clr_tb U (by omega) j0 (by omega) i (by omega), hUb i hi]
    have hjp2 : p.contains j0 = false := hjp (by omega)
    by_cases e : i = j0
    · subst e
      rw [hjp2]
      simp
    · have e2 : ¬ j0 = i := fun z => e z.symm
      simp [e, e2]
end
end
section
/-! the component's search: the tree -/
def xw_T : Nat → Nat
  | 0 => 0
  | m + 1 => (m + 1) * (1 + xw_T m) + 1
theorem xw_T6 : xw_T 6 = 3193 := by decide
theorem xw_Tstep {x y Q r r' : Nat} (h : y + 1 ≤ x) (hr : r' ≤ r + Q) : r' + (y * Q + 1) ≤ r + (x * Q + 1) := by
  have h1 : (y + 1) * Q ≤ x * Q := Nat.mul_le_mul_right Q h
  rw [Nat.succ_mul] at h1
  omega
section
variable {f_one f_other f_pinnedNet f_pinnedTo f_found : Int32} {a_present a_types a_gates a_ends a_others a_names a_marks a_nextMarks a_chosen a_first a_possible : Nat → Int32}
variable {P : Nat → Nat} {D : Nat → MtDV}
/-- the walk from a level on: all that is below is noted, and the level is left -/
theorem xw_dfs {post : SX → Prop} (hA : xw_A P D a_present a_types a_gates a_ends a_others) {a b : Nat} (ha : a < 2) (hb : b < 2) {cand : Nat → Nat → Bool} (hcand : ∀ U l j, l < 6 → j < 6 → (xw_ok U l a b f_pinnedNet f_pinnedTo a_names a_marks j ↔ U.testBit j = false ∧ cand l j = true)) : ∀ (m l : Nat) (p : List Nat), l + m = 5 → p.length = l → mt_nf p 0 = m + 1 → (∀ i, i < l → mt_fn p i < 6) → (∀ l', l' < l → mt_C cand (mt_ag (xw_L P D a) (xw_L P D b)) p l' = true) → ∀ (s j : Nat), j + s = 6 → ∀ (n r U : Nat) (N : List (List Nat)) (fo : Int32) (ch fi pp : Nat → Int32), n + r = 9000 → r + (mt_nf p j * (1 + xw_T m) + 1) ≤ 8192 → U < 64 → (∀ i, i < 6 → U.testBit i = (p.contains i || (decide (0 < j) && decide (i + 1 = j)))) → (0 < j → p.contains (j - 1) = false) → (∀ i, i < l → ch i = nI (mt_fn p i)) → ch l = nI j + (-1) → xw_NT N fo fi pp → N.length ≤ r → (∀ (n' r' U' : Nat) (fo' : Int32) (ch' fi' pp' : Nat → Int32), n' + r' = 9000 → r' ≤ r + (mt_nf p j * (1 + xw_T m) + 1) → U' < 64 → (∀ i, i < 6 → U'.testBit i = p.contains i) → (∀ i, i < l → ch' i = nI (mt_fn p i)) → xw_NT (N ++ (mt_fr m p j).filter (mt_G cand (mt_ag (xw_L P D a) (xw_L P D b)))) fo' fi' pp' → (N ++ (mt_fr m p j).filter (mt_G cand (mt_ag (xw_L P D a) (xw_L P D b)))).length ≤ r' → wX_search_66 post n' (nI l + (-1)) (nI U') (nI r') (nI a) (nI b) f_pinnedNet f_pinnedTo fo' a_present a_types a_gates a_ends a_others a_names a_marks a_nextMarks ch' fi' pp') → wX_search_66 post n (nI l) (nI U) (nI r) (nI a) (nI b) f_pinnedNet f_pinnedTo fo a_present a_types a_gates a_ends a_others a_names a_marks a_nextMarks ch fi pp := by
  intro m
  have hloc := mt_ag_loc (xw_L P D a) (xw_L P D b)
  induction m with
  | zero =>
    intro l p hlm hpl hnf hp6 hC s
    induction s using Nat.strongRecOn with
    | ind s ihs =>
    intro j hjs n r U N fo ch fi pp hnr hcost hU hUb hjp hch hcl hNT hN K
    have hl : l = 5 := by omega
    obtain ⟨n1, rfl⟩ : ∃ n1, n = n1 + 1 := ⟨n - 1, by omega⟩
    have hskip : ∀ i, j ≤ i → i ≤ 6 → (∀ i', j ≤ i' → i' < i → p.contains i' = true ∨ cand l i' = false) → (mt_fr 0 p j).filter (mt_G cand (mt_ag (xw_L P D a) (xw_L P D b))) = (mt_fr 0 p i).filter (mt_G cand (mt_ag (xw_L P D a) (xw_L P D b))) := by
      intro i h1 h2 h3
      have h4 := mt_skips (cand := cand) hloc 0 p (by omega) (i - j) j (by omega) (fun i' g1 g2 => (h3 i' g1 (by omega)).imp id (fun z => by
        unfold mt_C
        rw [mt_fn_last, hpl, z]
        rfl))
      rw [show j + (i - j) = i from by omega] at h4
      exact h4
    have NX : ∀ (N1 : List (List Nat)) (n' r' U' i : Nat) (fo' : Int32) (ch' fi' pp' : Nat → Int32), j ≤ i → i < 6 → p.contains i = false → N1 ++ (mt_fr 0 p (i + 1)).filter (mt_G cand (mt_ag (xw_L P D a) (xw_L P D b))) = N ++ (mt_fr 0 p j).filter (mt_G cand (mt_ag (xw_L P D a) (xw_L P D b))) → n' + r' = 9000 → r' ≤ r + (1 + xw_T 0) → U' < 64 → (∀ x, x < 6 → U'.testBit x = (p ++ [i]).contains x) → (∀ x, x < l → ch' x = nI (mt_fn p x)) → ch' l = nI i → xw_NT N1 fo' fi' pp' → N1.length ≤ r' → wX_search_66 post n' (nI l) (nI U') (nI r') (nI a) (nI b) f_pinnedNet f_pinnedTo fo' a_present a_types a_gates a_ends a_others a_names a_marks a_nextMarks ch' fi' pp' := by
      intro N1 n' r' U' i fo' ch' fi' pp' h1 h2 hpc hNeq hnr' hr' hU' hUb' hch' hcl' hNT' hN'
      have hfr : mt_nf p (i + 1) + 1 ≤ mt_nf p j := by
        have g1 := mt_nf_s p h2
        rw [hpc] at g1
        have g2 := mt_nf_mono p (i - j) j (by omega)
        rw [show j + (i - j) = i from by omega] at g2
        have g3 : (if false = true then 0 else 1) = 1 := rfl
        omega
      have hst := xw_Tstep hfr hr'
      refine ihs (6 - (i + 1)) (by omega) (i + 1) (by omega) n' r' U' N1 fo' ch' fi' pp' hnr' (by omega) hU' (fun x hx => ?_) (fun _ => hpc) hch' (by rw [hcl', pk_m1]) hNT' hN' ?_
      · rw [hUb' x hx, List.contains_append]
        congr 1
        simp
      · intro n2 r2 U2 fo2 ch2 fi2 pp2 g1 g2 g3 g4 g5 g6 g7
        rw [hNeq] at g6 g7
        exact K n2 r2 U2 fo2 ch2 fi2 pp2 g1 (by omega) g3 g4 g5 g6 g7
    refine xw_rnd hA ha hb hcand (N := N) (p := p) (j := j) (by omega) hpl hp6 (by omega) (by omega) hU hUb hjp hch hcl hNT hN ?_ ?_ ?_ ?_
    · intro U' g1 g2 g3
      have e : (mt_fr 0 p j).filter (mt_G cand (mt_ag (xw_L P D a) (xw_L P D b))) = [] := by
        rw [hskip 6 (by omega) (by omega) g3, mt_fr_6 0 p (Nat.le_refl 6)]
        rfl
      refine K n1 (r + 1) U' fo _ fi pp (by omega) (by omega) g1 g2 (fun i hi => ?_) ?_ ?_
      · rw [pk_un (by omega)]; exact hch i hi
      · rw [e, List.append_nil]; exact hNT
      · rw [e, List.append_nil]; omega
    · intro U' i g1 g2 g3 g4 g5 g6 g7 g8
      refine NX N n1 (r + 1) U' i fo _ fi pp g3 g4 g6 ?_ (by omega) (by omega) g1 g2 (fun x hx => ?_) pk_us hNT (by omega)
      · rw [hskip i g3 (by omega) g5, mt_skip hloc 0 p g4 (by omega) (Or.inr ?_)]
        unfold mt_C
        rw [mt_fn_last, hpl, g8, Bool.and_false]
      · rw [pk_un (by omega)]; exact hch x hx
    · intro U' i g1 g2 g3 g4 g5 g6 g7 g8 g9 fo' fi' pp' hnt
      refine NX (N ++ [p ++ [i]]) n1 (r + 1) U' i fo' _ fi' pp' g3 g4 g6 ?_ (by omega) (by omega) g1 g2 (fun x hx => ?_) pk_us hnt (by rw [List.length_append]; show N.length + 1 ≤ _; omega)
      · have hG : mt_G cand (mt_ag (xw_L P D a) (xw_L P D b)) (p ++ [i]) = true := by
          refine mt_leaf (fun l' hl' => ?_)
          by_cases e : l' = l
          · subst e
            unfold mt_C
            rw [← hpl, mt_fn_last, hpl, g7, g8]
            rfl
          · rw [mt_C_app hloc p [i] (by omega)]
            exact hC l' (by omega)
        rw [hskip i g3 (by omega) g5, mt_fr_s 0 p g4, g6, List.filter_append, List.append_assoc]
        congr 1
        have e2 : (if false = true then [] else mt_ext 0 (p ++ [i])) = [p ++ [i]] := rfl
        rw [e2, List.filter_cons_of_pos hG]
        rfl
      · rw [pk_un (by omega)]; exact hch x hx
    · intro U' i g1 g2 g3 g4 g5 g6 g7 g8 g9
      omega
  | succ m ih =>
    intro l p hlm hpl hnf hp6 hC s
    induction s using Nat.strongRecOn with
    | ind s ihs =>
    intro j hjs n r U N fo ch fi pp hnr hcost hU hUb hjp hch hcl hNT hN K
    obtain ⟨n1, rfl⟩ : ∃ n1, n = n1 + 1 := ⟨n - 1, by omega⟩
    have hskip : ∀ i, j ≤ i → i ≤ 6 → (∀ i', j ≤ i' → i' < i → p.contains i' = true ∨ cand l i' = false) → (mt_fr (m + 1) p j).filter (mt_G cand (mt_ag (xw_L P D a) (xw_L P D b))) = (mt_fr (m + 1) p i).filter (mt_G cand (mt_ag (xw_L P D a) (xw_L P D b))) := by
      intro i h1 h2 h3
      have h4 := mt_skips (cand := cand) hloc (m + 1) p (by omega) (i - j) j (by omega) (fun i' g1 g2 => (h3 i' g1 (by omega)).imp id (fun z => by
        unfold mt_C
        rw [mt_fn_last, hpl, z]
        rfl))
      rw [show j + (i - j) = i from by omega] at h4
      exact h4
    have hfrL : ∀ i, j ≤ i → i < 6 → p.contains i = false → mt_nf p (i + 1) + 1 ≤ mt_nf p j := by
      intro i h1 h2 hpc
      have g1 := mt_nf_s p h2
      rw [hpc] at g1
      have g2 := mt_nf_mono p (i - j) j (by omega)
      rw [show j + (i - j) = i from by omega] at g2
      have g3 : (if false = true then 0 else 1) = 1 := rfl
      omega
    have NX : ∀ (N1 : List (List Nat)) (n' r' U' i : Nat) (fo' : Int32) (ch' fi' pp' : Nat → Int32), j ≤ i → i < 6 → p.contains i = false → N1 ++ (mt_fr (m + 1) p (i + 1)).filter (mt_G cand (mt_ag (xw_L P D a) (xw_L P D b))) = N ++ (mt_fr (m + 1) p j).filter (mt_G cand (mt_ag (xw_L P D a) (xw_L P D b))) → n' + r' = 9000 → r' ≤ r + (1 + xw_T (m + 1)) → U' < 64 → (∀ x, x < 6 → U'.testBit x = (p ++ [i]).contains x) → (∀ x, x < l → ch' x = nI (mt_fn p x)) → ch' l = nI i → xw_NT N1 fo' fi' pp' → N1.length ≤ r' → wX_search_66 post n' (nI l) (nI U') (nI r') (nI a) (nI b) f_pinnedNet f_pinnedTo fo' a_present a_types a_gates a_ends a_others a_names a_marks a_nextMarks ch' fi' pp' := by
      intro N1 n' r' U' i fo' ch' fi' pp' h1 h2 hpc hNeq hnr' hr' hU' hUb' hch' hcl' hNT' hN'
      have hst := xw_Tstep (hfrL i h1 h2 hpc) hr'
      refine ihs (6 - (i + 1)) (by omega) (i + 1) (by omega) n' r' U' N1 fo' ch' fi' pp' hnr' (by omega) hU' (fun x hx => ?_) (fun _ => hpc) hch' (by rw [hcl', pk_m1]) hNT' hN' ?_
      · rw [hUb' x hx, List.contains_append]
        congr 1
        simp
      · intro n2 r2 U2 fo2 ch2 fi2 pp2 g1 g2 g3 g4 g5 g6 g7
        rw [hNeq] at g6 g7
        exact K n2 r2 U2 fo2 ch2 fi2 pp2 g1 (by omega) g3 g4 g5 g6 g7
    refine xw_rnd hA ha hb hcand (N := N) (p := p) (j := j) (by omega) hpl hp6 (by omega) (by omega) hU hUb hjp hch hcl hNT hN ?_ ?_ ?_ ?_
    · intro U' g1 g2 g3
      have e : (mt_fr (m + 1) p j).filter (mt_G cand (mt_ag (xw_L P D a) (xw_L P D b))) = [] := by
        rw [hskip 6 (by omega) (by omega) g3, mt_fr_6 (m + 1) p (Nat.le_refl 6)]
        rfl
      refine K n1 (r + 1) U' fo _ fi pp (by omega) (by omega) g1 g2 (fun i hi => ?_) ?_ ?_
      · rw [pk_un (by omega)]; exact hch i hi
      · rw [e, List.append_nil]; exact hNT
      · rw [e, List.append_nil]; omega
    · intro U' i g1 g2 g3 g4 g5 g6 g7 g8
      refine NX N n1 (r + 1) U' i fo _ fi pp g3 g4 g6 ?_ (by omega) (by omega) g1 g2 (fun x hx => ?_) pk_us hNT (by omega)
      · rw [hskip i g3 (by omega) g5, mt_skip hloc (m + 1) p g4 (by omega) (Or.inr ?_)]
        unfold mt_C
        rw [mt_fn_last, hpl, g8, Bool.and_false]
      · rw [pk_un (by omega)]; exact hch x hx
    · intro U' i g1 g2 g3 g4 g5 g6 g7 g8 g9
      omega
    · intro U' i g1 g2 g3 g4 g5 g6 g7 g8 g9
      have hpl2 : (p ++ [i]).length = l + 1 := by rw [List.length_append, hpl]; rfl
      have hnf2 : mt_nf (p ++ [i]) 0 = m + 1 := by
        have q1 := mt_nf_take p g4 g6 6 0 rfl
        rw [if_pos (Nat.zero_le _)] at q1
        omega
      have hfn2 : ∀ x, x < l + 1 → mt_fn (p ++ [i]) x = if x = l then i else mt_fn p x := by
        intro x hx
        by_cases e : x = l
        · rw [if_pos e, e, ← hpl, mt_fn_last]
        · rw [if_neg e, mt_fn_app p [i] (by omega)]
      have hst := xw_Tstep (hfrL i g3 g4 g6) (Nat.le_refl (r + (1 + xw_T (m + 1))))
      have hT : xw_T (m + 1) = (m + 1) * (1 + xw_T m) + 1 := rfl
      refine ih (l + 1) (p ++ [i]) (by omega) hpl2 hnf2 ?_ ?_ 6 0 rfl n1 (r + 1) U' N fo _ fi pp (by omega) ?_ g1 ?_ (fun z => absurd z (by omega)) ?_ ?_ hNT (by omega) ?_
      · intro x hx
        rw [hfn2 x hx]
        by_cases e : x = l
        · rw [if_pos e]; exact g4
        · rw [if_neg e]; exact hp6 x (by omega)
      · intro l' hl'
        by_cases e : l' = l
        · subst e
          unfold mt_C
          rw [← hpl, mt_fn_last, hpl, g7, g8]
          rfl
        · rw [mt_C_app hloc p [i] (by omega)]
          exact hC l' (by omega)
      · rw [hnf2, ← hT]
        omega
      · intro x hx
        rw [g2 x hx]
        simp
      · intro x hx
        rw [pk_un (by omega), hfn2 x hx]
        by_cases e : x = l
        · rw [e, pk_us, if_pos rfl]
        · rw [pk_un e, if_neg e]
          exact hch x (by omega)
      · rw [pk_us]
        rfl
      · intro n2 r2 U2 fo2 ch2 fi2 pp2 q1 q2 q3 q4 q5 q6 q7
        rw [hnf2, ← hT] at q2
        rw [pk_m1]
        refine NX _ n2 r2 U2 i fo2 ch2 fi2 pp2 g3 g4 g6 ?_ q1 (by omega) q3 q4 (fun x hx => ?_) ?_ q6 q7
        · rw [hskip i g3 (by omega) g5, mt_fr_s (m + 1) p g4, g6, List.filter_append, List.append_assoc]
          congr 1
        · rw [q5 x (by omega), mt_fn_app p [i] (by omega)]
        · rw [q5 l (by omega), ← hpl, mt_fn_last]
end
end
section
/-! the component's search as a whole: what it finds is the list of the matches -/
def mt_N (P : Nat → Nat) (D : Nat → MtDV) (nm : Nat → Nat) (pin : Nat → Nat → Bool) (a b : Nat) : List (List Nat) := (mt_ext 6 []).filter (fun q => (List.range 6).all (fun l => pin l (mt_fn q l)) && mt_F (P a) (P b) (fun d => D (7 * a + d)) (fun d => D (7 * b + d)) (fun i => nm (6 * a + i)) (fun i => nm (6 * b + i)) (mt_fn q))
def mt_M (P : Nat → Nat) (D : Nat → MtDV) (nm : Nat → Nat) (a b : Nat) : List (List Nat) := (mt_ext 6 []).filter (fun q => mt_F (P a) (P b) (fun d => D (7 * a + d)) (fun d => D (7 * b + d)) (fun i => nm (6 * a + i)) (fun i => nm (6 * b + i)) (mt_fn q))
theorem mt_M_len (P : Nat → Nat) (D : Nat → MtDV) (nm : Nat → Nat) (a b : Nat) : (mt_M P D nm a b).length ≤ 720 := by
  unfold mt_M
  exact Nat.le_trans (List.length_filter_le _ _) (Nat.le_of_eq mt_ext_len)
theorem mt_N_len (P : Nat → Nat) (D : Nat → MtDV) (nm : Nat → Nat) (pin : Nat → Nat → Bool) (a b : Nat) : (mt_N P D nm pin a b).length ≤ 720 := by
  unfold mt_N
  exact Nat.le_trans (List.length_filter_le _ _) (Nat.le_of_eq mt_ext_len)
def xw_pin (pn pt : Int32) (l j : Nat) : Bool := decide (nI l = pn → nI j = pt)
theorem mt_N_M (P : Nat → Nat) (D : Nat → MtDV) (nm : Nat → Nat) (pt : Int32) (a b : Nat) : mt_N P D nm (xw_pin (-1) pt) a b = mt_M P D nm a b := by
  unfold mt_N mt_M
  apply List.filter_congr
  intro q _
  have e : (List.range 6).all (fun l => xw_pin (-1) pt l (mt_fn q l)) = true := by
    rw [List.all_eq_true]
    intro l hl
    have hl2 := List.mem_range.mp hl
    refine decide_eq_true (fun z => ?_)
    have h1 : ¬ nI l < 0 := nI_pos (by omega)
    rw [z] at h1
    exact absurd ar_m1lt h1
  rw [e, Bool.true_and]
section
variable {f_one f_other f_pinnedNet f_pinnedTo f_found : Int32} {a_present a_types a_gates a_ends a_others a_names a_marks a_nextMarks a_chosen a_first a_possible : Nat → Int32}
variable {P : Nat → Nat} {D : Nat → MtDV} {nm : Nat → Nat}
theorem xw_51 {post : SX → Prop} (hA : xw_A P D a_present a_types a_gates a_ends a_others) {a b : Nat} (ha : a < 2) (hb : b < 2) {cand : Nat → Nat → Bool} (hcand : ∀ U l j, l < 6 → j < 6 → (xw_ok U l a b f_pinnedNet f_pinnedTo a_names a_marks j ↔ U.testBit j = false ∧ cand l j = true)) (hp : ∀ i, i < 6 → a_possible i = 0) (h : ∀ (fo : Int32) (ch fi pp : Nat → Int32), xw_NT ((mt_ext 6 []).filter (mt_G cand (mt_ag (xw_L P D a) (xw_L P D b)))) fo fi pp → post ((nI a), (nI b), f_pinnedNet, f_pinnedTo, fo, a_present, a_types, a_gates, a_ends, a_others, a_names, a_marks, a_nextMarks, ch, fi, pp)) : wX_search_51 post (nI a) (nI b) f_pinnedNet f_pinnedTo 0 a_present a_types a_gates a_ends a_others a_names a_marks a_nextMarks a_chosen a_first a_possible := by
  unfold wX_search_51
  rw [ar_narM]
  refine nm_e ⟨9000, ?_⟩
  refine xw_dfs hA ha hb hcand 5 0 [] rfl rfl mt_nf_0 (fun i hi => absurd hi (Nat.not_lt_zero i)) (fun i hi => absurd hi (Nat.not_lt_zero i)) 6 0 rfl 9000 0 0 [] 0 _ a_first a_possible rfl ?_ (by decide) ?_ (fun z => absurd z (by omega)) (fun i hi => absurd hi (Nat.not_lt_zero i)) (by rw [pk_us]; rfl) ?_ (Nat.le_refl 0) ?_
  · rw [mt_nf_0]
    decide
  · intro i hi
    rw [Nat.zero_testBit]
    rfl
  · refine ⟨rfl, fun i _ q T e => ?_, fun i hi => ⟨(by decide : (0 : Nat) < 64), hp i hi⟩⟩
    exact absurd e (List.cons_ne_nil q T).symm
  · intro n' r' U' fo' ch' fi' pp' g1 g2 g3 g4 g5 g6 g7
    rw [mt_nf_0] at g2
    have g8 : r' ≤ 3193 := g2
    obtain ⟨n2, rfl⟩ : ∃ n2, n' = n2 + 1 := ⟨n' - 1, by omega⟩
    exact br_f (nI_ge (b := 8192) (by omega) (by decide)) (br_t (by decide) (h fo' ch' fi' pp' g6))
theorem xw_17 {post : SX → Prop} (hA : xw_A P D a_present a_types a_gates a_ends a_others) {a b : Nat} (ha : a < 2) (hb : b < 2) (hn : ∀ q, q < 12 → nm q < 5 ∧ a_names q = nI (nm q) + (-1)) (h : ∀ (fo : Int32) (mk nx ch fi pp : Nat → Int32), xw_NT (mt_N P D nm (xw_pin f_pinnedNet f_pinnedTo) a b) fo fi pp → post ((nI a), (nI b), f_pinnedNet, f_pinnedTo, fo, a_present, a_types, a_gates, a_ends, a_others, a_names, mk, nx, ch, fi, pp)) : ∀ (n i : Nat) (pp : Nat → Int32), i + n = 6 → (∀ i', i' < i → pp i' = 0) → wX_search_17 post (nI a) (nI b) (nI a) (nI b) f_pinnedNet f_pinnedTo 0 (n + 1) (nI i) a_present a_types a_gates a_ends a_others a_names a_marks a_nextMarks a_chosen a_first pp := by
  intro n
  induction n with
  | zero =>
    intro i pp hi hpp
    have hpp6 : ∀ i, i < 6 → pp i = 0 := fun i' hi' => hpp i' (by omega)
    have hok : ∀ c, c < 2 → ∀ d, d < 7 → mt_ok (D (7 * c + d)) := fun c hc d hd => (hA.2 _ (by omega)).1
    have E : (mt_ext 6 []).filter (mt_G (mt_cand (xw_pin f_pinnedNet f_pinnedTo) (fun i => a_names (6 * a + i)) (fun i => a_names (6 * b + i)) (mt_mk (xw_L P D a) (fun i => a_names (6 * a + i)) 6) (mt_mk (xw_L P D b) (fun i => a_names (6 * b + i)) 6)) (mt_ag (xw_L P D a) (xw_L P D b))) = mt_N P D nm (xw_pin f_pinnedNet f_pinnedTo) a b := by
      unfold mt_N
      apply List.filter_congr
      intro q hq
      refine mt_GF (hok a ha) (hok b hb) _ _ _ _ _ (fun i hi j hj => ?_) hq
      have h1 := hn (6 * a + i) (by omega)
      have h2 := hn (6 * b + j) (by omega)
      rw [h1.2, h2.2, ar_pinj (by omega) (by omega)]
    have Z : ∀ mk nx : Nat → Int32, (∀ i, i < 6 → mk (6 * a + i) = mt_mk (xw_L P D a) (fun i => a_names (6 * a + i)) 6 i) → (∀ i, i < 6 → mk (6 * b + i) = mt_mk (xw_L P D b) (fun i => a_names (6 * b + i)) 6 i) → wX_search_51 post (nI a) (nI b) f_pinnedNet f_pinnedTo 0 a_present a_types a_gates a_ends a_others a_names mk nx a_chosen a_first pp := by
      intro mk nx h1 h2
      refine xw_51 hA ha hb (cand := mt_cand (xw_pin f_pinnedNet f_pinnedTo) (fun i => a_names (6 * a + i)) (fun i => a_names (6 * b + i)) (mt_mk (xw_L P D a) (fun i => a_names (6 * a + i)) 6) (mt_mk (xw_L P D b) (fun i => a_names (6 * b + i)) 6)) ?_ hpp6 (fun fo ch fi pp' hnt => h fo mk nx ch fi pp' ?_)
      · intro U l j hl hj
        unfold xw_ok mt_cand xw_pin
        rw [Bool.and_eq_true, Bool.and_eq_true, decide_eq_true_iff, decide_eq_true_iff, decide_eq_true_iff, h1 l hl, h2 j hj]
      · rw [E] at hnt
        exact hnt
    refine br_t (nI_le (a := 6) (by omega) (by omega)) (xw_mark hA ha (fun mk nx h1 _ => ?_))
    refine pk_eq a b (fun e => Z mk nx h1 (by rw [← e]; exact h1)) (fun ne => xw_mark hA hb (fun mk2 nx2 h3 h4 => Z mk2 nx2 (fun i hi => ?_) h3))
    rw [h4 (6 * a + i) (by omega)]
    exact h1 i hi
  | succ n ih =>
    intro i pp hi hpp
    refine br_f (nI_ge (b := 6) (by omega) (by decide)) ⟨vp_in_nI (by omega) (by decide), ?_⟩
    rw [nI_clamp (by omega), ar_nar0]
    refine nm_e (nm_r (nI_1 i) (ih (i + 1) _ (by omega) (fun i' h1 => ?_)))
    by_cases e : i' = i
    · rw [e, pk_us]
    · rw [pk_un e]
      exact hpp i' (by omega)
theorem xw_search {post : SX → Prop} (hA : xw_A P D a_present a_types a_gates a_ends a_others) {a b : Nat} (ha : a < 2) (hb : b < 2) (hn : ∀ q, q < 12 → nm q < 5 ∧ a_names q = nI (nm q) + (-1)) (h : ∀ (fo : Int32) (mk nx ch fi pp : Nat → Int32), xw_NT (mt_N P D nm (xw_pin f_pinnedNet f_pinnedTo) a b) fo fi pp → post ((nI a), (nI b), f_pinnedNet, f_pinnedTo, fo, a_present, a_types, a_gates, a_ends, a_others, a_names, mk, nx, ch, fi, pp)) : wpX_search post (f_one, f_other, f_pinnedNet, f_pinnedTo, f_found, a_present, a_types, a_gates, a_ends, a_others, a_names, a_marks, a_nextMarks, a_chosen, a_first, a_possible) (nI a) (nI b) :=
  ⟨7, xw_17 hA ha hb hn h 6 0 a_possible rfl (fun i hi => absurd hi (Nat.not_lt_zero i))⟩
theorem xw_cm {post : Int32 → SX → Prop} (hA : xw_A P D a_present a_types a_gates a_ends a_others) {a b : Nat} (ha : a < 2) (hb : b < 2) (hn : ∀ q, q < 12 → nm q < 5 ∧ a_names q = nI (nm q) + (-1)) (h : ∀ (mk nx ch fi pp : Nat → Int32), xw_NT (mt_M P D nm a b) (nI (mt_M P D nm a b).length) fi pp → post (nI (mt_M P D nm a b).length) ((nI a), (nI b), (-1), f_pinnedTo, (nI (mt_M P D nm a b).length), a_present, a_types, a_gates, a_ends, a_others, a_names, mk, nx, ch, fi, pp)) : wpX_countMatches post (f_one, f_other, f_pinnedNet, f_pinnedTo, f_found, a_present, a_types, a_gates, a_ends, a_others, a_names, a_marks, a_nextMarks, a_chosen, a_first, a_possible) (nI a) (nI b) := by
  unfold wpX_countMatches
  dsimp only
  refine xw_search hA ha hb hn (fun fo mk nx ch fi pp hnt => ?_)
  rw [mt_N_M] at hnt
  have e := hnt.1
  subst e
  exact h mk nx ch fi pp hnt
theorem xw_match {post : Int32 → SX → Prop} (hA : xw_A P D a_present a_types a_gates a_ends a_others) (hn : ∀ q, q < 12 → nm q < 5 ∧ a_names q = nI (nm q) + (-1)) (h : ∀ (mk nx ch fi pp : Nat → Int32), xw_NT (mt_M P D nm 0 1) (nI (mt_M P D nm 0 1).length) fi pp → post (if mt_M P D nm 0 1 = [] then 0 else 1) ((nI 0), (nI 1), (-1), f_pinnedTo, (nI (mt_M P D nm 0 1).length), a_present, a_types, a_gates, a_ends, a_others, a_names, mk, nx, ch, fi, pp)) : wpX_match post (f_one, f_other, f_pinnedNet, f_pinnedTo, f_found, a_present, a_types, a_gates, a_ends, a_others, a_names, a_marks, a_nextMarks, a_chosen, a_first, a_possible) := by
  unfold wpX_match
  dsimp only
  refine xw_cm (a := 0) (b := 1) hA (by decide) (by decide) hn (fun mk nx ch fi pp hnt => ?_)
  have hlen := mt_M_len P D nm 0 1
  have h2 := h mk nx ch fi pp hnt
  refine pk_le (mt_M P D nm 0 1).length 0 (fun e => ?_) (fun e => ?_)
  · rw [if_pos (List.eq_nil_of_length_eq_zero (by omega))] at h2
    exact h2
  · rw [if_neg (fun z => by rw [z] at e; exact absurd e (by decide))] at h2
    exact h2
end
end
section
/-! the reference's small methods: circuit, net, free, spell, same -/
def yw_A (P : Nat → Nat) (D : Nat → MtDV) (ty gt xs ys nm : Nat → Nat) (b_there b_types b_gates b_xs b_ys b_names : Nat → Int32) : Prop :=
  (∀ c, c < 2 → ∀ d, d < 7 → b_there (7 * c + d) = (if (P c).testBit d then 1 else 0)) ∧ (∀ q, q < 14 → (ty q < 3 ∧ gt q < 6 ∧ xs q < 6 ∧ ys q < 6) ∧ (b_types q = nI (ty q) ∧ b_gates q = nI (gt q) ∧ b_xs q = nI (xs q) ∧ b_ys q = nI (ys q)) ∧ D q = mt_nrm (ty q) (gt q) (xs q) (ys q)) ∧ (∀ q, q < 12 → nm q < 5 ∧ b_names q = nI (nm q))
section
variable {b_there b_types b_gates b_xs b_ys b_names b_to : Nat → Int32}
variable {P : Nat → Nat} {D : Nat → MtDV} {ty gt xs ys nm : Nat → Nat}
theorem yw_circ {post : Int32 → Prop} {c : Nat} (hc : c < 2) (h : post 1) : wpY_circuit post (b_there, b_types, b_gates, b_xs, b_ys, b_names, b_to) (nI c) := by
  rcases (by omega : c = 0 ∨ c = 1) with rfl | rfl
  · exact br_t rfl h
  · exact br_f (by decide) (br_t rfl h)
theorem yw_circN {post : Int32 → Prop} {x : Int32} (h0 : ¬ x = 0) (h1 : ¬ x = 1) (h : post 0) : wpY_circuit post (b_there, b_types, b_gates, b_xs, b_ys, b_names, b_to) x := br_f h0 (br_f h1 h)
theorem yw_net {post : Int32 → Prop} {i : Nat} (hi : i < 6) (h : post 1) : wpY_net post (b_there, b_types, b_gates, b_xs, b_ys, b_names, b_to) (nI i) :=
  br_f (nI_pos (by omega)) (br_f (nI_nlt (a := 5) (by omega) (by decide)) h)
theorem yw_netN {post : Int32 → Prop} {x : Int32} (hx : x < 0 ∨ nI 6 ≤ x) (h : post 0) : wpY_net post (b_there, b_types, b_gates, b_xs, b_ys, b_names, b_to) x := by
  by_cases h0 : x < 0
  · exact br_t h0 h
  · refine br_f h0 (br_t ?_ h)
    have h1 := hx.resolve_left h0
    rw [Int32.le_iff_toInt_le, nI_toInt (by decide)] at h1
    rw [Int32.lt_iff_toInt_lt, show (5 : Int32).toInt = 5 from by decide]
    omega
theorem yw_free5 {post : Int32 → Prop} {U sk : Nat} (hU : U < 64) (hsk : sk < 2 ^ 31) : ∀ (k n j : Nat), j + k = 6 → n ≤ j → post (nI (mt_free U sk k n j)) → wY_free_5 post (nI U) (nI sk) b_there b_types b_gates b_xs b_ys b_names b_to (k + 1) (nI n) (nI j) := by
  intro k
  induction k with
  | zero =>
    intro n j hj _ h
    exact br_t (nI_le (a := 6) (by omega) (by omega)) h
  | succ k ih =>
    intro n j hj hn h
    have hbit := ar_bit U (by omega) j (by omega)
    unfold mt_free at h
    refine br_f (nI_ge (b := 6) (by omega) (by decide)) (br_c (fun z => ?_) (fun z => ?_))
    · rw [if_pos (hbit.mp z)] at h
      refine pk_eq n sk (fun e => ?_) (fun ne => nm_r (nI_1 n) (nm_r (nI_1 j) (ih (n + 1) (j + 1) (by omega) (by omega) ?_)))
      · rw [if_pos e] at h
        exact h
      · rw [if_neg ne] at h
        exact h
    · rw [if_neg (fun y => z (hbit.mpr y))] at h
      exact nm_r (nI_1 j) (ih n (j + 1) (by omega) (by omega) h)
theorem mt_free_lt (U sk : Nat) : ∀ (k n j : Nat), j + k = 6 → mt_free U sk k n j < 6 := by
  intro k
  induction k with
  | zero => intro n j _; exact (by decide : (0 : Nat) < 6)
  | succ k ih =>
    intro n j hj
    unfold mt_free
    split
    · split
      · omega
      · exact ih _ _ (by omega)
    · exact ih _ _ (by omega)
theorem yw_free {post : Int32 → Prop} {U sk : Nat} (hU : U < 64) (hsk : sk < 2 ^ 31) (h : post (nI (mt_free U sk 6 0 0))) : wpY_free post (b_there, b_types, b_gates, b_xs, b_ys, b_names, b_to) (nI U) (nI sk) := ⟨7, yw_free5 hU hsk 6 0 0 rfl (Nat.le_refl 0) h⟩
theorem yw_s57 {post : SY → Prop} {J : Int32 → Int32 → Int32 → Int32 → (Nat → Int32) → (Nat → Int32) → (Nat → Int32) → (Nat → Int32) → (Nat → Int32) → (Nat → Int32) → (Nat → Int32) → Prop} {U B k sk : Nat} {z0 : Int32} (hU : U < 64) (hk : k < 6) (hsk : sk < 2 ^ 31) (h : J (nI (U ||| 2 ^ (mt_free U sk 6 0 0))) z0 (nI B) (nI (k + 1)) b_there b_types b_gates b_xs b_ys b_names (upd b_to k (nI (mt_free U sk 6 0 0)))) : wY_spell_57 post J (nI U) (nI B) (nI k) (nI sk) z0 b_there b_types b_gates b_xs b_ys b_names b_to := by
  have hl := mt_free_lt U sk 6 0 0 rfl
  refine yw_free hU hsk (nm_r (ar_or U (by omega) _ (by omega)) ⟨vp_in_nI hk (by decide), ?_⟩)
  rw [nI_clamp (by omega)]
  exact nm_e (nm_r (nI_1 k) h)
theorem yw_sp12 {post : SY → Prop} : ∀ (m k U rest block : Nat) (to : Nat → Int32), k + m = 6 → U < 64 → rest < 2 ^ 31 → block < 2 ^ 31 → (∀ to' : Nat → Int32, (∀ i, i < k → to' i = to i) → (∀ i, i < m → to' (k + i) = nI ((mt_sp m U rest block k).getD i 0)) → post (b_there, b_types, b_gates, b_xs, b_ys, b_names, to')) → wY_spell_12 post (m + 1) (nI U) (nI rest) (nI block) (nI k) b_there b_types b_gates b_xs b_ys b_names to := by
  intro m
  induction m with
  | zero =>
    intro k U rest block to hk _ _ _ h
    exact br_t (nI_le (a := 6) (by omega) (by omega)) (h to (fun _ _ => rfl) (fun i hi => absurd hi (by omega)))
  | succ m ih =>
    intro k U rest block to hk hU hrest hblock h
    have hk6 : k < 6 := by omega
    have e6 : (6 : Int32) - nI k = nI (6 - k) := pk_sub (a := 6) (by omega)
    have hB : block / (6 - k) < 2 ^ 31 := Nat.lt_of_le_of_lt (Nat.div_le_self _ _) hblock
    refine br_f (nI_ge (b := 6) (by omega) (by decide)) ?_
    rw [e6]
    refine ⟨nI_ne0 (by omega) (by omega), nm_r (pk_div hblock (by omega) (by omega)) ?_⟩
    unfold mt_sp at h
    generalize block / (6 - k) = B at h hB ⊢
    have F : ∀ (sk re : Nat), sk < 2 ^ 31 → re < 2 ^ 31 → (if B = 0 then 0 else rest / B) = sk → (if B = 0 then 0 else rest % B) = re → wY_spell_57 post (wY_spell_12 post (m + 1)) (nI U) (nI B) (nI k) (nI sk) (nI re) b_there b_types b_gates b_xs b_ys b_names to := by
      intro sk re hsk hre e1 e2
      rw [e1, e2] at h
      have hl := mt_free_lt U sk 6 0 0 rfl
      refine yw_s57 hU hk6 hsk (ih (k + 1) _ re B _ (by omega) (ar_or_lt6 U hU _ hl) hre hB (fun to' h1 h2 => h to' (fun i hi => ?_) (fun i hi => ?_)))
      · rw [h1 i (by omega), pk_un (by omega)]
      · cases i with
        | zero =>
          rw [Nat.add_zero, h1 k (by omega), pk_us]
          rfl
        | succ i =>
          rw [show k + (i + 1) = k + 1 + i from by omega, h2 i (by omega)]
          rfl
    refine pk_le B 0 (fun e => ?_) (fun e => ⟨nI_ne0 e hB, ?_⟩)
    · have e0 : B = 0 := by omega
      exact pk_le B 0 (fun _ => F 0 0 (by decide) (by decide) (if_pos e0) (if_pos e0)) (fun z => absurd z (by omega))
    · have e0 : ¬ B = 0 := by omega
      rw [pk_div hrest e hB]
      refine pk_le B 0 (fun z => absurd z (by omega)) (fun _ => ⟨nI_ne0 e hB, ?_⟩)
      rw [pk_rem hrest e hB]
      exact F _ _ (Nat.lt_of_le_of_lt (Nat.div_le_self _ _) hrest) (Nat.lt_of_le_of_lt (Nat.mod_le _ _) hrest) (if_neg e0) (if_neg e0)
theorem yw_spell {post : SY → Prop} {code : Nat} (hc : code < 720) (h : ∀ to : Nat → Int32, (∀ i, i < 6 → to i = nI (mt_fn (mt_spell code) i) ∧ mt_fn (mt_spell code) i < 6) → post (b_there, b_types, b_gates, b_xs, b_ys, b_names, to)) : wpY_spell post (b_there, b_types, b_gates, b_xs, b_ys, b_names, b_to) (nI code) := by
  refine ⟨7, yw_sp12 6 0 0 code 720 b_to rfl (by decide) (by omega) (by decide) (fun to _ h2 => h to (fun i hi => ⟨?_, (mt_ext_pm (mt_spell_mem hc)).2.1 i hi⟩))⟩
  have h3 := h2 i hi
  rw [Nat.zero_add] at h3
  exact h3
theorem yw_there (hA : yw_A P D ty gt xs ys nm b_there b_types b_gates b_xs b_ys b_names) {c d : Nat} (hc : c < 2) (hd : d < 7) {A B : Prop} (h0 : (P c).testBit d = false → A) (h1 : (P c).testBit d = true → B) : (b_there (7 * c + d) = 0 → A) ∧ (¬ b_there (7 * c + d) = 0 → B) := by
  rw [hA.1 c hc d hd]
  cases hz : (P c).testBit d
  · exact br_t rfl (h0 hz)
  · exact br_f (by decide) (h1 hz)
theorem yw_s126 {post : Int32 → Prop} (hA : yw_A P D ty gt xs ys nm b_there b_types b_gates b_xs b_ys b_names) {c e c' d : Nat} {x4 : Int32} (hc : c < 2) (he : e < 7) (hc' : c' < 2) (hd : d < 7) (h0 : post 0) : wY_same_126 post (nI (7 * c + e)) (nI (7 * c' + d)) x4 b_there b_types b_gates b_xs b_ys b_names b_to := by
  have i1 : vp_in (nI (7 * c + e)) 14 := vp_in_nI (by omega) (by decide)
  have i2 : vp_in (nI (7 * c' + d)) 14 := vp_in_nI (by omega) (by decide)
  have c1 : (nI (7 * c + e)).toNatClampNeg = 7 * c + e := nI_clamp (by omega)
  have c2 : (nI (7 * c' + d)).toNatClampNeg = 7 * c' + d := nI_clamp (by omega)
  unfold wY_same_126 wY_same_127
  rw [c1, c2]
  refine ⟨i1, yw_there hA hc he (fun _ => h0) (fun _ => ⟨i2, yw_there hA hc' hd (fun _ => h0) (fun _ => ⟨i1, i2, br_c (fun _ => br_t rfl h0) (fun _ => h0)⟩)⟩)⟩
theorem yw_s122 {post : Int32 → Prop} (hA : yw_A P D ty gt xs ys nm b_there b_types b_gates b_xs b_ys b_names) {c e c' d g : Nat} (hc : c < 2) (he : e < 7) (hc' : c' < 2) (hd : d < 7) (hg : g < 6) (h1 : (P c).testBit e = true → (P c').testBit d = true → ty (7 * c + e) = ty (7 * c' + d) → (ty (7 * c + e) = 2 ∨ g = gt (7 * c' + d)) → post 1) (h0 : ¬ ((P c).testBit e = true ∧ (P c').testBit d = true ∧ ty (7 * c + e) = ty (7 * c' + d) ∧ (ty (7 * c + e) = 2 ∨ g = gt (7 * c' + d))) → post 0) : wY_same_122 post (nI (7 * c + e)) (nI (7 * c' + d)) (nI g) b_there b_types b_gates b_xs b_ys b_names b_to := by
  have i1 : vp_in (nI (7 * c + e)) 14 := vp_in_nI (by omega) (by decide)
  have i2 : vp_in (nI (7 * c' + d)) 14 := vp_in_nI (by omega) (by decide)
  have c1 : (nI (7 * c + e)).toNatClampNeg = 7 * c + e := nI_clamp (by omega)
  have c2 : (nI (7 * c' + d)).toNatClampNeg = 7 * c' + d := nI_clamp (by omega)
  obtain ⟨b1, v1, _⟩ := hA.2.1 (7 * c + e) (by omega)
  obtain ⟨b2, v2, _⟩ := hA.2.1 (7 * c' + d) (by omega)
  unfold wY_same_122 wY_same_127
  rw [c1, c2, v1.1, v2.1, v2.2.1]
  refine ⟨i1, yw_there hA hc he (fun z => h0 (fun y => absurd (y.1.symm.trans z) (by decide))) (fun z1 => ⟨i2, yw_there hA hc' hd (fun z => h0 (fun y => absurd (y.2.1.symm.trans z) (by decide))) (fun z2 => ⟨i1, i2, ?_⟩)⟩)⟩
  refine pk_eq (ty (7 * c + e)) (ty (7 * c' + d)) (fun e3 => br_f (by decide) ⟨i1, ?_⟩) (fun ne => h0 (fun y => ne y.2.2.1))
  refine pk_eq (ty (7 * c + e)) 2 (fun e4 => h1 z1 z2 e3 (Or.inl e4)) (fun ne4 => ⟨i2, ?_⟩)
  exact pk_eq g (gt (7 * c' + d)) (fun e5 => h1 z1 z2 e3 (Or.inr e5)) (fun ne5 => h0 (fun y => y.2.2.2.elim ne4 ne5))
theorem yw_s76 {post : Int32 → Prop} (hA : yw_A P D ty gt xs ys nm b_there b_types b_gates b_xs b_ys b_names) {c e c' d g x y : Nat} (hc : c < 2) (he : e < 7) (hc' : c' < 2) (hd : d < 7) (hg : g < 6) (hx : x < 6) (hy : y < 6) (h1 : (P c).testBit e = true → (P c').testBit d = true → mt_nrm (ty (7 * c + e)) g x y = D (7 * c' + d) → post 1) (h0 : ¬ ((P c).testBit e = true ∧ (P c').testBit d = true ∧ mt_nrm (ty (7 * c + e)) g x y = D (7 * c' + d)) → post 0) : wY_same_76 post (nI (7 * c + e)) (nI (7 * c' + d)) (nI g) (nI x) (nI y) b_there b_types b_gates b_xs b_ys b_names b_to := by
  have i2 : vp_in (nI (7 * c' + d)) 14 := vp_in_nI (by omega) (by decide)
  have c2 : (nI (7 * c' + d)).toNatClampNeg = 7 * c' + d := nI_clamp (by omega)
  obtain ⟨b2, v2, eD⟩ := hA.2.1 (7 * c' + d) (by omega)
  rw [eD, mt_nrm_eq] at h1 h0
  have Y : ((x = xs (7 * c' + d) ∧ y = ys (7 * c' + d)) ∨ (x = ys (7 * c' + d) ∧ y = xs (7 * c' + d))) → wY_same_122 post (nI (7 * c + e)) (nI (7 * c' + d)) (nI g) b_there b_types b_gates b_xs b_ys b_names b_to := fun he2 => yw_s122 hA hc he hc' hd hg (fun z1 z2 z3 z4 => h1 z1 z2 ⟨z3, z4, he2⟩) (fun z => h0 (fun w => z ⟨w.1, w.2.1, w.2.2.1, w.2.2.2.1⟩))
  have Nn : ¬ ((x = xs (7 * c' + d) ∧ y = ys (7 * c' + d)) ∨ (x = ys (7 * c' + d) ∧ y = xs (7 * c' + d))) → wY_same_126 post (nI (7 * c + e)) (nI (7 * c' + d)) (nI g) b_there b_types b_gates b_xs b_ys b_names b_to := fun he2 => yw_s126 hA hc he hc' hd (h0 (fun w => he2 w.2.2.2.2))
  have Z : ¬ (x = xs (7 * c' + d) ∧ y = ys (7 * c' + d)) → wY_same_100 post (nI (7 * c + e)) (nI (7 * c' + d)) (nI g) (nI x) (nI y) b_there b_types b_gates b_xs b_ys b_names b_to := by
    intro he2
    unfold wY_same_100
    rw [c2, v2.2.2.1, v2.2.2.2]
    refine ⟨i2, pk_eq x (ys (7 * c' + d)) (fun e1 => ⟨i2, pk_eq y (xs (7 * c' + d)) (fun e2 => Y (Or.inr ⟨e1, e2⟩)) (fun ne => Nn (fun w => w.elim he2 (fun v => ne v.2)))⟩) (fun ne => Nn (fun w => w.elim he2 (fun v => ne v.1)))⟩
  unfold wY_same_76
  rw [c2, v2.2.2.1, v2.2.2.2]
  exact ⟨i2, pk_eq x (xs (7 * c' + d)) (fun e1 => ⟨i2, pk_eq y (ys (7 * c' + d)) (fun e2 => Y (Or.inl ⟨e1, e2⟩)) (fun ne => Z (fun w => ne w.2))⟩) (fun ne => Z (fun w => ne w.1))⟩
theorem yw_sm_t {pk pl : Nat} {E F : Nat → MtDV} {e d : Nat} : mt_sm pk pl E F e d = true ↔ pk.testBit e = true ∧ pl.testBit d = true ∧ E e = F d := by
  unfold mt_sm
  rw [Bool.and_eq_true, Bool.and_eq_true, decide_eq_true_iff]
theorem yw_sm_f {pk pl : Nat} {E F : Nat → MtDV} {e d : Nat} (h : ¬ (pk.testBit e = true ∧ pl.testBit d = true ∧ E e = F d)) : mt_sm pk pl E F e d = false := by
  have hn : ∀ z : Bool, ¬ z = true → z = false := by decide
  exact hn _ (fun z => h (yw_sm_t.mp z))
theorem yw_same1 {post : Int32 → Prop} (hA : yw_A P D ty gt xs ys nm b_there b_types b_gates b_xs b_ys b_names) {c e c' d : Nat} {f : Nat → Nat} (hc : c < 2) (he : e < 7) (hc' : c' < 2) (hd : d < 7) (hto : ∀ i, i < 6 → b_to i = nI (f i) ∧ f i < 6) (h1 : mt_sm (P c) (P c') (fun x => mt_mv f (D (7 * c + x))) (fun x => D (7 * c' + x)) e d = true → post 1) (h0 : mt_sm (P c) (P c') (fun x => mt_mv f (D (7 * c + x))) (fun x => D (7 * c' + x)) e d = false → post 0) : wpY_same post (b_there, b_types, b_gates, b_xs, b_ys, b_names, b_to) (nI (7 * c + e)) 1 (nI (7 * c' + d)) := by
  have i1 : vp_in (nI (7 * c + e)) 14 := vp_in_nI (by omega) (by decide)
  have c1 : (nI (7 * c + e)).toNatClampNeg = 7 * c + e := nI_clamp (by omega)
  obtain ⟨⟨b1, b2, b3, b4⟩, ⟨v1, v2, v3, v4⟩, eD⟩ := hA.2.1 (7 * c + e) (by omega)
  have eM : mt_mv f (D (7 * c + e)) = mt_nrm (ty (7 * c + e)) (f (gt (7 * c + e))) (f (xs (7 * c + e))) (f (ys (7 * c + e))) := by rw [eD, mt_mv_nrm]
  unfold wpY_same
  dsimp only
  refine br_f (by decide) ?_
  rw [c1, v2, nI_clamp (by omega), (hto _ b2).1]
  refine ⟨i1, vp_in_nI b2 (by decide), ?_⟩
  unfold wY_same_24
  refine br_f (by decide) ?_
  rw [c1, v3, nI_clamp (by omega), (hto _ b3).1]
  refine ⟨i1, vp_in_nI b3 (by decide), ?_⟩
  unfold wY_same_50
  refine br_f (by decide) ?_
  rw [c1, v4, nI_clamp (by omega), (hto _ b4).1]
  refine ⟨i1, vp_in_nI b4 (by decide), ?_⟩
  refine yw_s76 hA hc he hc' hd (hto _ b2).2 (hto _ b3).2 (hto _ b4).2 (fun z1 z2 z3 => h1 (yw_sm_t.mpr ⟨z1, z2, ?_⟩)) (fun z => h0 (yw_sm_f (fun w => z ⟨w.1, w.2.1, ?_⟩)))
  · exact eM.trans z3
  · exact eM.symm.trans w.2.2
theorem yw_same0 {post : Int32 → Prop} (hA : yw_A P D ty gt xs ys nm b_there b_types b_gates b_xs b_ys b_names) {c e c' d : Nat} (hc : c < 2) (he : e < 7) (hc' : c' < 2) (hd : d < 7) (h1 : mt_sm (P c) (P c') (fun x => D (7 * c + x)) (fun x => D (7 * c' + x)) e d = true → post 1) (h0 : mt_sm (P c) (P c') (fun x => D (7 * c + x)) (fun x => D (7 * c' + x)) e d = false → post 0) : wpY_same post (b_there, b_types, b_gates, b_xs, b_ys, b_names, b_to) (nI (7 * c + e)) 0 (nI (7 * c' + d)) := by
  have i1 : vp_in (nI (7 * c + e)) 14 := vp_in_nI (by omega) (by decide)
  have c1 : (nI (7 * c + e)).toNatClampNeg = 7 * c + e := nI_clamp (by omega)
  obtain ⟨⟨b1, b2, b3, b4⟩, ⟨v1, v2, v3, v4⟩, eD⟩ := hA.2.1 (7 * c + e) (by omega)
  unfold wpY_same
  dsimp only
  refine br_t rfl ⟨i1, ?_⟩
  rw [c1, v2]
  unfold wY_same_24
  refine br_t rfl ⟨i1, ?_⟩
  rw [c1, v3]
  unfold wY_same_50
  refine br_t rfl ⟨i1, ?_⟩
  rw [c1, v4]
  refine yw_s76 hA hc he hc' hd b2 b3 b4 (fun z1 z2 z3 => h1 (yw_sm_t.mpr ⟨z1, z2, ?_⟩)) (fun z => h0 (yw_sm_f (fun w => z ⟨w.1, w.2.1, ?_⟩)))
  · exact eD.trans z3
  · exact eD.symm.trans w.2.2
end
end
section
/-! the reference's fits -/
def yw_b (z : Bool) : Int32 := if z then 1 else 0
theorem yw_bn (z : Bool) : narrow .boolean (.int (yw_b z)) = .int (yw_b z) := by
  cases z
  · exact narrow_b0
  · exact narrow_b1
section
variable {b_there b_types b_gates b_xs b_ys b_names b_to : Nat → Int32}
variable {P : Nat → Nat} {D : Nat → MtDV} {ty gt xs ys nm : Nat → Nat}
theorem yw_f212 {post : Int32 → Prop} {J1 : Int32 → Int32 → Prop} {J : Int32 → Int32 → Int32 → Prop} (hA : yw_A P D ty gt xs ys nm b_there b_types b_gates b_xs b_ys b_names) {b d m e : Nat} {x1 z0 : Int32} (hb : b < 2) (hd : d < 7) (he : e < 7) (h : J z0 (nI (m + (if mt_sm (P b) (P b) (fun x => D (7 * b + x)) (fun x => D (7 * b + x)) e d = true then 1 else 0))) (nI (e + 1))) : wY_fits_212 post J1 J x1 (nI b) (nI d) (nI m) (nI e) z0 b_there b_types b_gates b_xs b_ys b_names b_to := by
  unfold wY_fits_212
  rw [ar_7c, ar_7c]
  refine yw_same0 hA hb he hb hd (fun z => br_f (by decide) (nm_r (nI_1 m) (nm_r (nI_1 e) ?_))) (fun z => br_t rfl (nm_r (nI_1 e) ?_))
  · rw [if_pos z] at h
    exact h
  · rw [if_neg (by rw [z]; decide)] at h
    exact h
theorem yw_f174 {post : Int32 → Prop} {J : Int32 → Int32 → Prop} (hA : yw_A P D ty gt xs ys nm b_there b_types b_gates b_xs b_ys b_names) {a b d : Nat} {f : Nat → Nat} (ha : a < 2) (hb : b < 2) (hd : d < 7) (hto : ∀ i, i < 6 → b_to i = nI (f i) ∧ f i < 6) : ∀ (n e m1 m2 : Nat), e + n = 7 → m1 ≤ e → m2 ≤ e → J (yw_b (decide (m1 + (List.range' e n).countP (fun e => mt_sm (P a) (P b) (fun x => mt_mv f (D (7 * a + x))) (fun x => D (7 * b + x)) e d) = m2 + (List.range' e n).countP (fun e => mt_sm (P b) (P b) (fun x => D (7 * b + x)) (fun x => D (7 * b + x)) e d)))) (nI (d + 1)) → wY_fits_174 post J (nI a) (nI b) (nI d) b_there b_types b_gates b_xs b_ys b_names b_to (n + 1) (nI m1) (nI m2) (nI e) := by
  intro n
  induction n with
  | zero =>
    intro e m1 m2 he h1 h2 h
    refine br_t (nI_le (a := 7) (by omega) (by omega)) (pk_eq m1 m2 (fun z => nm_r (nI_1 d) ?_) (fun z => nm_r (nI_1 d) ?_))
    · have h3 : J (yw_b (decide (m1 = m2))) (nI (d + 1)) := h
      rw [decide_eq_true z] at h3
      exact h3
    · have h3 : J (yw_b (decide (m1 = m2))) (nI (d + 1)) := h
      rw [decide_eq_false z] at h3
      exact h3
  | succ n ih =>
    intro e m1 m2 he h1 h2 h
    rw [List.range'_succ, List.countP_cons, List.countP_cons] at h
    refine br_f (nI_ge (b := 7) (by omega) (by decide)) ?_
    rw [ar_7c, ar_7c]
    have G : ∀ u : Nat, u ≤ 1 → (if mt_sm (P a) (P b) (fun x => mt_mv f (D (7 * a + x))) (fun x => D (7 * b + x)) e d = true then 1 else 0) = u → wY_fits_212 post J (wY_fits_174 post J (nI a) (nI b) (nI d) b_there b_types b_gates b_xs b_ys b_names b_to (n + 1)) (nI a) (nI b) (nI d) (nI m2) (nI e) (nI (m1 + u)) b_there b_types b_gates b_xs b_ys b_names b_to := by
      intro u hu eu
      refine yw_f212 hA hb hd (by omega) (ih (e + 1) (m1 + u) _ (by omega) (by omega) (by split <;> omega) ?_)
      rw [eu] at h
      rw [Nat.add_assoc m1 u, Nat.add_assoc m2, Nat.add_comm u, Nat.add_comm (if mt_sm (P b) (P b) (fun x => D (7 * b + x)) (fun x => D (7 * b + x)) e d = true then 1 else 0)]
      exact h
    refine yw_same1 hA ha (by omega) hb hd hto (fun z => br_f (by decide) ?_) (fun z => br_t rfl (G 0 (by omega) (by rw [if_neg (by rw [z]; decide)])))
    rw [nI_1]
    exact G 1 (Nat.le_refl 1) (if_pos z)
theorem yw_f154 {post : Int32 → Prop} (hA : yw_A P D ty gt xs ys nm b_there b_types b_gates b_xs b_ys b_names) {a b : Nat} {f : Nat → Nat} (ha : a < 2) (hb : b < 2) (hto : ∀ i, i < 6 → b_to i = nI (f i) ∧ f i < 6) : ∀ (n d : Nat) (z : Bool), d + n = 7 → post (yw_b (z && (List.range' d n).all (fun d => decide ((List.range' 0 7).countP (fun e => mt_sm (P a) (P b) (fun x => mt_mv f (D (7 * a + x))) (fun x => D (7 * b + x)) e d) = (List.range' 0 7).countP (fun e => mt_sm (P b) (P b) (fun x => D (7 * b + x)) (fun x => D (7 * b + x)) e d))))) → wY_fits_154 post (nI a) (nI b) b_there b_types b_gates b_xs b_ys b_names b_to (n + 1) (yw_b z) (nI d) := by
  intro n
  induction n with
  | zero =>
    intro d z hd h
    have h2 : post (yw_b z) := by
      have h3 : post (yw_b (z && true)) := h
      rwa [Bool.and_true] at h3
    exact br_t (nI_le (a := 7) (by omega) (by omega)) ⟨yw_bn z, h2⟩
  | succ n ih =>
    intro d z hd h
    refine br_f (nI_ge (b := 7) (by omega) (by decide)) ?_
    cases z with
    | false =>
      rw [Bool.false_and] at h
      exact br_t rfl ⟨yw_bn false, h⟩
    | true =>
      rw [Bool.true_and, List.range'_succ, List.all_cons] at h
      refine br_f (by decide) ⟨8, yw_f174 hA ha hb (by omega) hto 7 0 0 0 rfl (Nat.le_refl 0) (Nat.le_refl 0) (ih (d + 1) _ (by omega) ?_)⟩
      rw [Nat.zero_add, Nat.zero_add]
      exact h
theorem yw_f100 {post : Int32 → Prop} {J : Int32 → Int32 → Int32 → Prop} (hA : yw_A P D ty gt xs ys nm b_there b_types b_gates b_xs b_ys b_names) {b d m : Nat} {x1 x3 z0 : Int32} (hb : b < 2) (hd : d < 7) (h : J z0 (nI (m + (if (P b).testBit d = true then 1 else 0))) (nI (d + 1))) : wY_fits_100 post J x1 (nI b) x3 (nI m) (nI d) z0 b_there b_types b_gates b_xs b_ys b_names b_to := by
  unfold wY_fits_100
  rw [ar_7c, nI_clamp (by omega)]
  refine ⟨vp_in_nI (by omega) (by decide), yw_there hA hb hd (fun z => nm_r (nI_1 d) ?_) (fun z => nm_r (nI_1 m) (nm_r (nI_1 d) ?_))⟩
  · rw [if_neg (by rw [z]; decide)] at h
    exact h
  · rw [if_pos z] at h
    exact h
theorem yw_f69 {post : Int32 → Prop} (hA : yw_A P D ty gt xs ys nm b_there b_types b_gates b_xs b_ys b_names) {a b : Nat} (ha : a < 2) (hb : b < 2) {z : Bool} : ∀ (n d m1 m2 : Nat), d + n = 7 → m1 ≤ d → m2 ≤ d → (∃ n154 : Nat, wY_fits_154 post (nI a) (nI b) b_there b_types b_gates b_xs b_ys b_names b_to n154 (yw_b (z && decide (m1 + (List.range' d n).countP (fun d => (P a).testBit d) = m2 + (List.range' d n).countP (fun d => (P b).testBit d)))) 0) → wY_fits_69 post (nI a) (nI b) (yw_b z) b_there b_types b_gates b_xs b_ys b_names b_to (n + 1) (nI m1) (nI m2) (nI d) := by
  intro n
  induction n with
  | zero =>
    intro d m1 m2 hd h1 h2 h
    have h3 : ∃ n154 : Nat, wY_fits_154 post (nI a) (nI b) b_there b_types b_gates b_xs b_ys b_names b_to n154 (yw_b (z && decide (m1 = m2))) 0 := h
    refine br_t (nI_le (a := 7) (by omega) (by omega)) ?_
    cases z with
    | false => exact br_t rfl h3
    | true =>
      refine br_f (by decide) (pk_eq m1 m2 (fun e => ?_) (fun e => ?_))
      · rw [decide_eq_true e] at h3
        exact h3
      · rw [decide_eq_false e] at h3
        exact h3
  | succ n ih =>
    intro d m1 m2 hd h1 h2 h
    rw [List.range'_succ, List.countP_cons, List.countP_cons] at h
    refine br_f (nI_ge (b := 7) (by omega) (by decide)) ?_
    rw [ar_7c, nI_clamp (n := 7 * a + d) (by omega)]
    have G : ∀ u : Nat, u ≤ 1 → (if (P a).testBit d = true then 1 else 0) = u → wY_fits_100 post (wY_fits_69 post (nI a) (nI b) (yw_b z) b_there b_types b_gates b_xs b_ys b_names b_to (n + 1)) (nI a) (nI b) (yw_b z) (nI m2) (nI d) (nI (m1 + u)) b_there b_types b_gates b_xs b_ys b_names b_to := by
      intro u hu eu
      refine yw_f100 hA hb (by omega) (ih (d + 1) (m1 + u) _ (by omega) (by omega) (by split <;> omega) ?_)
      rw [eu] at h
      rw [Nat.add_assoc m1 u, Nat.add_assoc m2, Nat.add_comm u, Nat.add_comm (if (P b).testBit d = true then 1 else 0)]
      exact h
    refine ⟨vp_in_nI (by omega) (by decide), yw_there hA ha (by omega) (fun y => G 0 (by omega) (by rw [if_neg (by rw [y]; decide)])) (fun y => ?_)⟩
    rw [nI_1]
    exact G 1 (Nat.le_refl 1) (if_pos y)
theorem yw_f5 {post : Int32 → Prop} (hA : yw_A P D ty gt xs ys nm b_there b_types b_gates b_xs b_ys b_names) {a b : Nat} {f : Nat → Nat} (ha : a < 2) (hb : b < 2) (hto : ∀ i, i < 6 → b_to i = nI (f i) ∧ f i < 6) : ∀ (n i : Nat) (z : Bool), i + n = 6 → (∃ n69 : Nat, wY_fits_69 post (nI a) (nI b) (yw_b (z && (List.range' i n).all (fun i => decide (nm (6 * a + i) = nm (6 * b + f i))))) b_there b_types b_gates b_xs b_ys b_names b_to n69 0 0 0) → wY_fits_5 post (nI a) (nI b) b_there b_types b_gates b_xs b_ys b_names b_to (n + 1) (yw_b z) (nI i) := by
  intro n
  induction n with
  | zero =>
    intro i z hi h
    have h3 : ∃ n69 : Nat, wY_fits_69 post (nI a) (nI b) (yw_b (z && true)) b_there b_types b_gates b_xs b_ys b_names b_to n69 0 0 0 := h
    rw [Bool.and_true] at h3
    exact br_t (nI_le (a := 6) (by omega) (by omega)) h3
  | succ n ih =>
    intro i z hi h
    refine br_f (nI_ge (b := 6) (by omega) (by decide)) ?_
    cases z with
    | false =>
      refine br_t rfl (nm_r (nI_1 i) (ih (i + 1) false (by omega) ?_))
      rw [Bool.false_and] at h ⊢
      exact h
    | true =>
      have hf := (hto i (by omega)).2
      have n1 := hA.2.2 (6 * a + i) (by omega)
      have n2 := hA.2.2 (6 * b + f i) (by omega)
      refine br_f (by decide) ?_
      rw [nI_clamp (n := i) (by omega), (hto i (by omega)).1, ar_6c, ar_6c, nI_clamp (n := 6 * a + i) (by omega), nI_clamp (n := 6 * b + f i) (by omega), n1.2, n2.2]
      rw [Bool.true_and, List.range'_succ, List.all_cons] at h
      refine ⟨vp_in_nI (by omega) (by decide), vp_in_nI (by omega) (by decide), vp_in_nI (by omega) (by decide), ?_⟩
      refine pk_eq (nm (6 * a + i)) (nm (6 * b + f i)) (fun e => nm_r (nI_1 i) (ih (i + 1) true (by omega) ?_)) (fun ne => nm_r (nI_1 i) (ih (i + 1) false (by omega) ?_))
      · rw [decide_eq_true e] at h
        exact h
      · rw [decide_eq_false ne] at h
        exact h
theorem yw_fits {post : Int32 → Prop} (hA : yw_A P D ty gt xs ys nm b_there b_types b_gates b_xs b_ys b_names) {a b : Nat} {f : Nat → Nat} (ha : a < 2) (hb : b < 2) (hto : ∀ i, i < 6 → b_to i = nI (f i) ∧ f i < 6) (h : post (yw_b (mt_F (P a) (P b) (fun d => D (7 * a + d)) (fun d => D (7 * b + d)) (fun i => nm (6 * a + i)) (fun i => nm (6 * b + i)) f))) : wpY_fits post (b_there, b_types, b_gates, b_xs, b_ys, b_names, b_to) (nI a) (nI b) := by
  refine ⟨7, yw_f5 hA ha hb hto 6 0 true rfl ⟨8, yw_f69 hA ha hb 7 0 0 0 rfl (Nat.le_refl 0) (Nat.le_refl 0) ⟨8, yw_f154 hA ha hb hto 7 0 _ rfl ?_⟩⟩⟩
  rw [Bool.true_and, Nat.zero_add, Nat.zero_add, Bool.and_assoc]
  exact h
end
end
section
/-! the reference's loops over all assignments -/
def yw_F (P : Nat → Nat) (D : Nat → MtDV) (nm : Nat → Nat) (a b : Nat) (q : List Nat) : Bool := mt_F (P a) (P b) (fun d => D (7 * a + d)) (fun d => D (7 * b + d)) (fun i => nm (6 * a + i)) (fun i => nm (6 * b + i)) (mt_fn q)
def yw_R (P : Nat → Nat) (D : Nat → MtDV) (nm : Nat → Nat) (a b code k : Nat) : List (List Nat) := ((List.range' code k).map mt_spell).filter (yw_F P D nm a b)
theorem yw_R_M (P : Nat → Nat) (D : Nat → MtDV) (nm : Nat → Nat) (a b : Nat) : yw_R P D nm a b 0 720 = mt_M P D nm a b := by
  unfold yw_R mt_M
  rw [mt_spell_all]
  rfl
theorem yw_R_t {P : Nat → Nat} {D : Nat → MtDV} {nm : Nat → Nat} {a b code k : Nat} (h : yw_F P D nm a b (mt_spell code) = true) : yw_R P D nm a b code (k + 1) = mt_spell code :: yw_R P D nm a b (code + 1) k := by
  unfold yw_R
  rw [List.range'_succ, List.map_cons, List.filter_cons_of_pos h]
theorem yw_R_f {P : Nat → Nat} {D : Nat → MtDV} {nm : Nat → Nat} {a b code k : Nat} (h : yw_F P D nm a b (mt_spell code) = false) : yw_R P D nm a b code (k + 1) = yw_R P D nm a b (code + 1) k := by
  unfold yw_R
  rw [List.range'_succ, List.map_cons, List.filter_cons_of_neg (by rw [h]; decide)]
section
variable {b_there b_types b_gates b_xs b_ys b_names b_to : Nat → Int32}
variable {P : Nat → Nat} {D : Nat → MtDV} {ty gt xs ys nm : Nat → Nat}
/-- fits, by its two answers -/
theorem yw_fit {post : Int32 → Prop} (hA : yw_A P D ty gt xs ys nm b_there b_types b_gates b_xs b_ys b_names) {a b : Nat} {q : List Nat} (ha : a < 2) (hb : b < 2) (hto : ∀ i, i < 6 → b_to i = nI (mt_fn q i) ∧ mt_fn q i < 6) (h1 : yw_F P D nm a b q = true → post 1) (h0 : yw_F P D nm a b q = false → post 0) : wpY_fits post (b_there, b_types, b_gates, b_xs, b_ys, b_names, b_to) (nI a) (nI b) := by
  refine yw_fits hA ha hb hto ?_
  show post (yw_b (yw_F P D nm a b q))
  cases hz : yw_F P D nm a b q
  · exact h0 hz
  · exact h1 hz
theorem yw_first2 {post : Int32 → SY → Prop} (hA : yw_A P D ty gt xs ys nm b_there b_types b_gates b_xs b_ys b_names) : ∀ (k code : Nat) (to : Nat → Int32), code + k = 720 → (yw_R P D nm 0 1 code k = [] → ∀ to' : Nat → Int32, post (-1) (b_there, b_types, b_gates, b_xs, b_ys, b_names, to')) → (∀ (q : List Nat) (T : List (List Nat)) (c' : Nat) (to' : Nat → Int32), yw_R P D nm 0 1 code k = q :: T → c' < 720 → (∀ i, i < 6 → to' i = nI (mt_fn q i)) → post (nI c') (b_there, b_types, b_gates, b_xs, b_ys, b_names, to')) → wY_first_2 post (k + 1) (nI code) b_there b_types b_gates b_xs b_ys b_names to := by
  intro k
  induction k with
  | zero =>
    intro code to hc h0 _
    exact br_t (nI_le (a := 720) (by omega) (by omega)) (h0 rfl to)
  | succ k ih =>
    intro code to hc h0 h1
    refine br_f (nI_ge (b := 720) (by omega) (by decide)) (yw_spell (by omega) (fun to2 hto => ?_))
    refine yw_fit (a := 0) (b := 1) (q := mt_spell code) hA (by decide) (by decide) hto (fun z => br_f (by decide) ?_) (fun z => br_t rfl (nm_r (nI_1 code) ?_))
    · exact h1 _ _ code to2 (yw_R_t z) (by omega) (fun i hi => (hto i hi).1)
    · rw [yw_R_f z] at h0 h1
      exact ih (code + 1) to2 (by omega) h0 h1
theorem yw_first {post : Int32 → SY → Prop} (hA : yw_A P D ty gt xs ys nm b_there b_types b_gates b_xs b_ys b_names) (h0 : mt_M P D nm 0 1 = [] → ∀ to' : Nat → Int32, post (-1) (b_there, b_types, b_gates, b_xs, b_ys, b_names, to')) (h1 : ∀ (q : List Nat) (T : List (List Nat)) (c' : Nat) (to' : Nat → Int32), mt_M P D nm 0 1 = q :: T → c' < 720 → (∀ i, i < 6 → to' i = nI (mt_fn q i)) → post (nI c') (b_there, b_types, b_gates, b_xs, b_ys, b_names, to')) : wpY_first post (b_there, b_types, b_gates, b_xs, b_ys, b_names, b_to) := by
  rw [← yw_R_M] at h0 h1
  exact ⟨721, yw_first2 hA 720 0 b_to rfl h0 h1⟩
theorem yw_match {post : Int32 → SY → Prop} (hA : yw_A P D ty gt xs ys nm b_there b_types b_gates b_xs b_ys b_names) (h : ∀ to' : Nat → Int32, post (if mt_M P D nm 0 1 = [] then 0 else 1) (b_there, b_types, b_gates, b_xs, b_ys, b_names, to')) : wpY_match post (b_there, b_types, b_gates, b_xs, b_ys, b_names, b_to) := by
  unfold wpY_match
  dsimp only
  refine yw_first hA (fun e to' => ?_) (fun q T c' to' e hc _ => ?_)
  · have h2 := h to'
    rw [if_pos e] at h2
    exact br_t ar_m1lt h2
  · have h2 := h to'
    rw [if_neg (fun z => by rw [z] at e; exact absurd e (List.cons_ne_nil q T).symm)] at h2
    exact br_f (nI_pos (by omega)) h2
theorem yw_mat4 {post : Int32 → SY → Prop} (hA : yw_A P D ty gt xs ys nm b_there b_types b_gates b_xs b_ys b_names) : ∀ (k code m : Nat) (to : Nat → Int32), code + k = 720 → (∀ to' : Nat → Int32, post (nI (m + (yw_R P D nm 0 1 code k).length)) (b_there, b_types, b_gates, b_xs, b_ys, b_names, to')) → wY_matches_4 post (k + 1) (nI m) (nI code) b_there b_types b_gates b_xs b_ys b_names to := by
  intro k
  induction k with
  | zero =>
    intro code m to hc h
    exact br_t (nI_le (a := 720) (by omega) (by omega)) (h to)
  | succ k ih =>
    intro code m to hc h
    refine br_f (nI_ge (b := 720) (by omega) (by decide)) (yw_spell (by omega) (fun to2 hto => ?_))
    refine yw_fit (a := 0) (b := 1) (q := mt_spell code) hA (by decide) (by decide) hto (fun z => br_f (by decide) (nm_r (nI_1 m) (nm_r (nI_1 code) ?_))) (fun z => br_t rfl (nm_r (nI_1 code) ?_))
    · rw [yw_R_t z, List.length_cons] at h
      refine ih (code + 1) (m + 1) to2 (by omega) ?_
      rw [show m + 1 + (yw_R P D nm 0 1 (code + 1) k).length = m + ((yw_R P D nm 0 1 (code + 1) k).length + 1) from by omega]
      exact h
    · rw [yw_R_f z] at h
      exact ih (code + 1) m to2 (by omega) h
theorem yw_matches {post : Int32 → SY → Prop} (hA : yw_A P D ty gt xs ys nm b_there b_types b_gates b_xs b_ys b_names) (h : ∀ to' : Nat → Int32, post (nI (mt_M P D nm 0 1).length) (b_there, b_types, b_gates, b_xs, b_ys, b_names, to')) : wpY_matches post (b_there, b_types, b_gates, b_xs, b_ys, b_names, b_to) := by
  refine ⟨721, yw_mat4 hA 720 0 0 b_to rfl ?_⟩
  rw [yw_R_M, Nat.zero_add]
  exact h
theorem yw_can4 {post : Int32 → SY → Prop} (hA : yw_A P D ty gt xs ys nm b_there b_types b_gates b_xs b_ys b_names) {i : Nat} (hi : i < 6) : ∀ (k code s : Nat) (to : Nat → Int32), code + k = 720 → s < 64 → (∀ to' : Nat → Int32, post (nI ((yw_R P D nm 0 1 code k).foldl (fun s q => s ||| 2 ^ (mt_fn q i)) s)) (b_there, b_types, b_gates, b_xs, b_ys, b_names, to')) → wY_candidates_4 post (nI i) (k + 1) (nI s) (nI code) b_there b_types b_gates b_xs b_ys b_names to := by
  intro k
  induction k with
  | zero =>
    intro code s to hc _ h
    exact br_t (nI_le (a := 720) (by omega) (by omega)) (h to)
  | succ k ih =>
    intro code s to hc hs h
    refine br_f (nI_ge (b := 720) (by omega) (by decide)) (yw_net hi (br_f (by decide) (yw_spell (by omega) (fun to2 hto => ?_))))
    refine yw_fit (a := 0) (b := 1) (q := mt_spell code) hA (by decide) (by decide) hto (fun z => br_f (by decide) ⟨vp_in_nI hi (by decide), ?_⟩) (fun z => br_t rfl (nm_r (nI_1 code) ?_))
    · have hq := (hto i hi).2
      rw [nI_clamp (by omega), (hto i hi).1]
      refine nm_r (ar_or s (by omega) _ (by omega)) (nm_r (nI_1 code) (ih (code + 1) _ to2 (by omega) (ar_or_lt6 s hs _ hq) ?_))
      rw [yw_R_t z, List.foldl_cons] at h
      exact h
    · rw [yw_R_f z] at h
      exact ih (code + 1) s to2 (by omega) hs h
theorem yw_candidates {post : Int32 → SY → Prop} (hA : yw_A P D ty gt xs ys nm b_there b_types b_gates b_xs b_ys b_names) {i : Nat} (hi : i < 6) (h : ∀ to' : Nat → Int32, post (nI (mt_pos (mt_M P D nm 0 1) i)) (b_there, b_types, b_gates, b_xs, b_ys, b_names, to')) : wpY_candidates post (b_there, b_types, b_gates, b_xs, b_ys, b_names, b_to) (nI i) := by
  refine ⟨721, yw_can4 hA hi 720 0 0 b_to rfl (by decide) ?_⟩
  rw [yw_R_M]
  exact h
theorem yw_sym4 {post : Int32 → SY → Prop} (hA : yw_A P D ty gt xs ys nm b_there b_types b_gates b_xs b_ys b_names) {c : Nat} (hc2 : c < 2) : ∀ (k code m : Nat) (to : Nat → Int32), code + k = 720 → (∀ to' : Nat → Int32, post (nI (m + (yw_R P D nm c c code k).length)) (b_there, b_types, b_gates, b_xs, b_ys, b_names, to')) → wY_symmetries_4 post (nI c) (k + 1) (nI m) (nI code) b_there b_types b_gates b_xs b_ys b_names to := by
  intro k
  induction k with
  | zero =>
    intro code m to hc h
    refine br_t (nI_le (a := 720) (by omega) (by omega)) ?_
    unfold wY_symmetries_47
    exact yw_circ hc2 (br_f (by decide) (h to))
  | succ k ih =>
    intro code m to hc h
    refine br_f (nI_ge (b := 720) (by omega) (by decide)) (yw_circ hc2 (br_f (by decide) (yw_spell (by omega) (fun to2 hto => ?_))))
    refine yw_fit (a := c) (b := c) (q := mt_spell code) hA hc2 hc2 hto (fun z => br_f (by decide) (nm_r (nI_1 m) (nm_r (nI_1 code) ?_))) (fun z => br_t rfl (nm_r (nI_1 code) ?_))
    · rw [yw_R_t z, List.length_cons] at h
      refine ih (code + 1) (m + 1) to2 (by omega) ?_
      rw [show m + 1 + (yw_R P D nm c c (code + 1) k).length = m + ((yw_R P D nm c c (code + 1) k).length + 1) from by omega]
      exact h
    · rw [yw_R_f z] at h
      exact ih (code + 1) m to2 (by omega) h
theorem yw_symmetries {post : Int32 → SY → Prop} (hA : yw_A P D ty gt xs ys nm b_there b_types b_gates b_xs b_ys b_names) {c : Nat} (hc : c < 2) (h : ∀ to' : Nat → Int32, post (nI (mt_M P D nm c c).length) (b_there, b_types, b_gates, b_xs, b_ys, b_names, to')) : wpY_symmetries post (b_there, b_types, b_gates, b_xs, b_ys, b_names, b_to) (nI c) := by
  refine ⟨721, yw_sym4 hA hc 720 0 0 b_to rfl ?_⟩
  rw [yw_R_M, Nat.zero_add]
  exact h
theorem yw_ex1 {post : Int32 → SY → Prop} {c i j : Nat} {x5 : Int32} (hc : c < 2) (hi : i < 6) (hj : j < 6) (k : Nat) (h : post 1 (b_there, b_types, b_gates, b_xs, b_ys, b_names, b_to)) : wY_exchangeable_6 post (nI c) (nI i) (nI j) (k + 1) 1 x5 b_there b_types b_gates b_xs b_ys b_names b_to :=
  br_c (fun _ => ⟨narrow_b1, h⟩) (fun _ => yw_circ hc (br_f (by decide) (yw_net hi (br_f (by decide) (yw_net hj (br_f (by decide) (br_f (by decide) ⟨narrow_b1, h⟩)))))))
theorem yw_ex6 {post : Int32 → SY → Prop} (hA : yw_A P D ty gt xs ys nm b_there b_types b_gates b_xs b_ys b_names) {c i j : Nat} (hc : c < 2) (hi : i < 6) (hj : j < 6) : ∀ (k code : Nat) (to : Nat → Int32), code + k = 720 → (∀ to' : Nat → Int32, post (yw_b ((yw_R P D nm c c code k).any (fun q => decide (mt_fn q i = j)))) (b_there, b_types, b_gates, b_xs, b_ys, b_names, to')) → wY_exchangeable_6 post (nI c) (nI i) (nI j) (k + 1) 0 (nI code) b_there b_types b_gates b_xs b_ys b_names to := by
  intro k
  induction k with
  | zero =>
    intro code to hcd h
    exact br_t (nI_le (a := 720) (by omega) (by omega)) ⟨narrow_b0, h to⟩
  | succ k ih =>
    intro code to hcd h
    refine br_f (nI_ge (b := 720) (by omega) (by decide)) (yw_circ hc (br_f (by decide) (yw_net hi (br_f (by decide) (yw_net hj (br_f (by decide) (br_t rfl (yw_spell (by omega) (fun to2 hto => ⟨vp_in_nI hi (by decide), ?_⟩)))))))))
    have hq := (hto i hi).2
    rw [nI_clamp (by omega), (hto i hi).1]
    refine pk_eq (mt_fn (mt_spell code) i) j (fun e => ?_) (fun ne => nm_r (nI_1 code) (ih (code + 1) to2 (by omega) ?_))
    · refine yw_fit (a := c) (b := c) (q := mt_spell code) hA hc hc hto (fun z => br_f (by decide) (nm_r (nI_1 code) (yw_ex1 hc hi hj k ?_))) (fun z => br_t rfl (nm_r (nI_1 code) (ih (code + 1) to2 (by omega) ?_)))
      · have h2 := h to2
        rw [yw_R_t z, List.any_cons, decide_eq_true e] at h2
        exact h2
      · rw [yw_R_f z] at h
        exact h
    · cases z : yw_F P D nm c c (mt_spell code)
      · rw [yw_R_f z] at h
        exact h
      · rw [yw_R_t z, List.any_cons, decide_eq_false ne, Bool.false_or] at h
        exact h
theorem yw_exchangeable {post : Int32 → SY → Prop} (hA : yw_A P D ty gt xs ys nm b_there b_types b_gates b_xs b_ys b_names) {c i j : Nat} (hc : c < 2) (hi : i < 6) (hj : j < 6) (h : ∀ to' : Nat → Int32, post (yw_b ((mt_M P D nm c c).any (fun q => decide (mt_fn q i = j)))) (b_there, b_types, b_gates, b_xs, b_ys, b_names, to')) : wpY_exchangeable post (b_there, b_types, b_gates, b_xs, b_ys, b_names, b_to) (nI c) (nI i) (nI j) := by
  refine ⟨721, yw_ex6 hA hc hi hj 720 0 b_to rfl ?_⟩
  rw [yw_R_M]
  exact h
end
end
section
/-! add, remove, name, devices, degree: lemmas for each side -/
def mt_pu (P : Nat → Nat) (c v : Nat) : Nat → Nat := fun x => if x = c then v else P x
theorem mt_pu_s {P : Nat → Nat} {c v : Nat} : mt_pu P c v c = v := if_pos rfl
theorem mt_pu_n {P : Nat → Nat} {c v x : Nat} (h : x ≠ c) : mt_pu P c v x = P x := if_neg h
def mt_du (D : Nat → MtDV) (q : Nat) (e : MtDV) : Nat → MtDV := fun x => if x = q then e else D x
theorem mt_du_s {D : Nat → MtDV} {q : Nat} {e : MtDV} : mt_du D q e q = e := if_pos rfl
theorem mt_du_n {D : Nat → MtDV} {q x : Nat} {e : MtDV} (h : x ≠ q) : mt_du D q e x = D x := if_neg h
def mt_cD (e : MtDV) (i : Nat) : Nat := (if e.1 ≠ 2 ∧ e.2.1 = i then 1 else 0) + (if e.2.2.1 = i then 1 else 0) + (if e.2.2.2 = i then 1 else 0)
theorem mt_cD_nrm (t g x y i : Nat) : mt_cD (mt_nrm t g x y) i = (if x = i then 1 else 0) + (if y = i then 1 else 0) + (if t ≠ 2 ∧ g = i then 1 else 0) := by
  unfold mt_cD mt_nrm
  dsimp only
  have e1 : (if t ≠ 2 ∧ (if t = 2 then 0 else g) = i then 1 else 0) = (if t ≠ 2 ∧ g = i then 1 else 0) := by
    by_cases ht : t = 2
    · rw [if_neg (fun z => z.1 ht), if_neg (fun z => z.1 ht)]
    · rw [if_neg (c := t = 2) ht]
  rw [e1]
  by_cases h : x ≤ y
  · rw [Nat.min_eq_left h, Nat.max_eq_right h]
    omega
  · rw [Nat.min_eq_right (by omega), Nat.max_eq_left (by omega)]
    omega
def mt_dg (p : Nat) (E : Nat → MtDV) (i : Nat) : Nat → Nat → Nat
  | 0, _ => 0
  | n + 1, d => (if p.testBit d then mt_cD (E d) i else 0) + mt_dg p E i n (d + 1)
theorem ar_nm (x : Int32) (h1 : ¬ x < -1) (h2 : x ≤ 3) : ∃ k, k < 5 ∧ x = nI k + (-1) := by
  rw [Int32.lt_iff_toInt_lt, show (-1 : Int32).toInt = -1 from by decide] at h1
  rw [Int32.le_iff_toInt_le, show (3 : Int32).toInt = 3 from by decide] at h2
  have h3 : x.toInt = -1 ∨ x.toInt = 0 ∨ x.toInt = 1 ∨ x.toInt = 2 ∨ x.toInt = 3 := by omega
  rcases h3 with h | h | h | h | h
  · exact ⟨0, by decide, Int32.toInt_inj.mp (h.trans (by decide))⟩
  · exact ⟨1, by decide, Int32.toInt_inj.mp (h.trans (by decide))⟩
  · exact ⟨2, by decide, Int32.toInt_inj.mp (h.trans (by decide))⟩
  · exact ⟨3, by decide, Int32.toInt_inj.mp (h.trans (by decide))⟩
  · exact ⟨4, by decide, Int32.toInt_inj.mp (h.trans (by decide))⟩
theorem ar_nmb : ∀ k, k < 5 → (nI k + (-1)).toInt8.toInt32 = nI k + (-1) := by decide +kernel
section
variable {f_one f_other f_pinnedNet f_pinnedTo f_found : Int32} {a_present a_types a_gates a_ends a_others a_names a_marks a_nextMarks a_chosen a_first a_possible : Nat → Int32}
variable {b_there b_types b_gates b_xs b_ys b_names b_to : Nat → Int32}
variable {P : Nat → Nat} {D : Nat → MtDV} {ty gt xs ys nm : Nat → Nat}
theorem xw_A_put (hA : xw_A P D a_present a_types a_gates a_ends a_others) {c i : Nat} {e : MtDV} (hc : c < 2) (hi : i < 7) (he : mt_ok e) : xw_A (mt_pu P c (P c ||| 2 ^ i)) (mt_du D (7 * c + i) e) (upd a_present c (nI (P c ||| 2 ^ i))) (upd a_types (7 * c + i) (nI e.1)) (upd a_gates (7 * c + i) (nI e.2.1)) (upd a_ends (7 * c + i) (nI e.2.2.1)) (upd a_others (7 * c + i) (nI e.2.2.2)) := by
  refine ⟨fun c' hc' => ?_, fun q hq => ?_⟩
  · by_cases h : c' = c
    · subst h
      rw [mt_pu_s, pk_us]
      exact ⟨ar_or_lt _ (hA.1 c' hc').1 i hi, rfl⟩
    · rw [mt_pu_n h, pk_un h]
      exact hA.1 c' hc'
  · by_cases h : q = 7 * c + i
    · subst h
      rw [mt_du_s, pk_us, pk_us, pk_us, pk_us]
      exact ⟨he, rfl, rfl, rfl, rfl⟩
    · rw [mt_du_n h, pk_un h, pk_un h, pk_un h, pk_un h]
      exact hA.2 q hq
theorem yw_A_put (hA : yw_A P D ty gt xs ys nm b_there b_types b_gates b_xs b_ys b_names) {c i t g x y : Nat} (hc : c < 2) (hi : i < 7) (hp : P c < 128) (ht : t < 3) (hg : g < 6) (hx : x < 6) (hy : y < 6) : yw_A (mt_pu P c (P c ||| 2 ^ i)) (mt_du D (7 * c + i) (mt_nrm t g x y)) (mt_pu ty (7 * c + i) t) (mt_pu gt (7 * c + i) g) (mt_pu xs (7 * c + i) x) (mt_pu ys (7 * c + i) y) nm (upd b_there (7 * c + i) 1) (upd b_types (7 * c + i) (nI t)) (upd b_gates (7 * c + i) (nI g)) (upd b_xs (7 * c + i) (nI x)) (upd b_ys (7 * c + i) (nI y)) b_names := by
  refine ⟨fun c' hc' d hd => ?_, fun q hq => ?_, hA.2.2⟩
  · by_cases h : 7 * c' + d = 7 * c + i
    · have h1 : c' = c := by omega
      have h2 : d = i := by omega
      subst h1 h2
      rw [pk_us, mt_pu_s, ar_or_tb, decide_eq_true rfl, Bool.or_true]
      rfl
    · rw [pk_un h, hA.1 c' hc' d hd]
      by_cases h1 : c' = c
      · subst h1
        rw [mt_pu_s, ar_or_tb, decide_eq_false (fun z => h (by rw [z])), Bool.or_false]
      · rw [mt_pu_n h1]
  · by_cases h : q = 7 * c + i
    · subst h
      rw [mt_du_s, mt_pu_s, mt_pu_s, mt_pu_s, mt_pu_s, pk_us, pk_us, pk_us, pk_us]
      exact ⟨⟨ht, hg, hx, hy⟩, ⟨rfl, rfl, rfl, rfl⟩, rfl⟩
    · rw [mt_du_n h, mt_pu_n h, mt_pu_n h, mt_pu_n h, mt_pu_n h, pk_un h, pk_un h, pk_un h, pk_un h]
      exact hA.2.1 q hq
theorem xw_A_clr (hA : xw_A P D a_present a_types a_gates a_ends a_others) {c i : Nat} (hc : c < 2) (hi : i < 7) : xw_A (mt_pu P c (P c &&& (127 ^^^ 2 ^ i))) D (upd a_present c (nI (P c &&& (127 ^^^ 2 ^ i)))) a_types a_gates a_ends a_others := by
  refine ⟨fun c' hc' => ?_, hA.2⟩
  by_cases h : c' = c
  · subst h
    rw [mt_pu_s, pk_us]
    exact ⟨ar_clr_lt _ (hA.1 c' hc').1 i hi, rfl⟩
  · rw [mt_pu_n h, pk_un h]
    exact hA.1 c' hc'
theorem yw_A_clr (hA : yw_A P D ty gt xs ys nm b_there b_types b_gates b_xs b_ys b_names) {c i : Nat} (hc : c < 2) (hi : i < 7) (hp : P c < 128) : yw_A (mt_pu P c (P c &&& (127 ^^^ 2 ^ i))) D ty gt xs ys nm (upd b_there (7 * c + i) 0) b_types b_gates b_xs b_ys b_names := by
  refine ⟨fun c' hc' d hd => ?_, hA.2⟩
  by_cases h : 7 * c' + d = 7 * c + i
  · have h1 : c' = c := by omega
    have h2 : d = i := by omega
    subst h1 h2
    rw [pk_us, mt_pu_s, ar_clr_tb _ hp d hi d hd, decide_eq_true rfl, Bool.not_true, Bool.and_false]
    rfl
  · rw [pk_un h, hA.1 c' hc' d hd]
    by_cases h1 : c' = c
    · subst h1
      rw [mt_pu_s, ar_clr_tb _ hp i hi d hd, decide_eq_false (fun z => h (by rw [z])), Bool.not_false, Bool.and_true]
    · rw [mt_pu_n h1]
theorem xw_add163 {post : Int32 → SX → Prop} {c i x y lo : Nat} (hc : c < 2) (hi : i < 7) (hx : x < 6) (hy : y < 6) (hlo : lo < 6) (h : post (nI i) (f_one, f_other, f_pinnedNet, f_pinnedTo, f_found, a_present, a_types, a_gates, (upd a_ends (7 * c + i) (nI lo)), (upd a_others (7 * c + i) (nI (max x y))), a_names, a_marks, a_nextMarks, a_chosen, a_first, a_possible)) : wX_add_163 post (nI c) (nI x) (nI y) (nI i) (nI lo) (nI (7 * c + i)) f_one f_other f_pinnedNet f_pinnedTo f_found a_present a_types a_gates a_ends a_others a_names a_marks a_nextMarks a_chosen a_first a_possible := by
  have hin : vp_in (nI (7 * c + i)) 14 := vp_in_nI (by omega) (by decide)
  unfold wX_add_163
  rw [ar_c7, nI_clamp (by omega), ar_nar8 (by omega), ar_nar8 (by omega), ar_nar8 (by omega)]
  refine ⟨hin, nm_e (pk_le y x (fun e => ⟨hin, nm_e ?_⟩) (fun e => ⟨hin, nm_e ?_⟩))⟩
  · rw [Nat.max_eq_left e] at h
    exact h
  · rw [Nat.max_eq_right (by omega)] at h
    exact h
theorem xw_add136 {post : Int32 → SX → Prop} {c i x y g : Nat} (hc : c < 2) (hi : i < 7) (hx : x < 6) (hy : y < 6) (hg : g < 6) (h : post (nI i) (f_one, f_other, f_pinnedNet, f_pinnedTo, f_found, a_present, a_types, (upd a_gates (7 * c + i) (nI g)), (upd a_ends (7 * c + i) (nI (min x y))), (upd a_others (7 * c + i) (nI (max x y))), a_names, a_marks, a_nextMarks, a_chosen, a_first, a_possible)) : wX_add_136 post (nI c) (nI x) (nI y) (nI i) (nI g) (nI (7 * c + i)) f_one f_other f_pinnedNet f_pinnedTo f_found a_present a_types a_gates a_ends a_others a_names a_marks a_nextMarks a_chosen a_first a_possible := by
  have hin : vp_in (nI (7 * c + i)) 14 := vp_in_nI (by omega) (by decide)
  unfold wX_add_136
  rw [ar_c7, nI_clamp (by omega), ar_nar8 (by omega)]
  refine ⟨hin, nm_e (pk_le y x (fun e => xw_add163 hc hi hx hy hy ?_) (fun e => xw_add163 hc hi hx hy hx ?_))⟩
  · rw [Nat.min_eq_right e] at h
    exact h
  · rw [Nat.min_eq_left (by omega)] at h
    exact h
theorem xw_add65 {post : Int32 → SX → Prop} (hA : xw_A P D a_present a_types a_gates a_ends a_others) {c t g x y : Nat} (hc : c < 2) (ht : t < 3) (hg : g < 6) (hx : x < 6) (hy : y < 6) : ∀ (n d : Nat), d + n = 7 → (∀ i, d ≤ i → i < 7 → (∀ i', d ≤ i' → i' < i → (P c).testBit i' = true) → (P c).testBit i = false → post (nI i) (f_one, f_other, f_pinnedNet, f_pinnedTo, f_found, (upd a_present c (nI (P c ||| 2 ^ i))), (upd a_types (7 * c + i) (nI (mt_nrm t g x y).1)), (upd a_gates (7 * c + i) (nI (mt_nrm t g x y).2.1)), (upd a_ends (7 * c + i) (nI (mt_nrm t g x y).2.2.1)), (upd a_others (7 * c + i) (nI (mt_nrm t g x y).2.2.2)), a_names, a_marks, a_nextMarks, a_chosen, a_first, a_possible)) → ((∀ i', d ≤ i' → i' < 7 → (P c).testBit i' = true) → post (-2) (f_one, f_other, f_pinnedNet, f_pinnedTo, f_found, a_present, a_types, a_gates, a_ends, a_others, a_names, a_marks, a_nextMarks, a_chosen, a_first, a_possible)) → wX_add_65 post (nI c) (nI t) (nI g) (nI x) (nI y) f_one f_other f_pinnedNet f_pinnedTo f_found a_present a_types a_gates a_ends a_others a_names a_marks a_nextMarks a_chosen a_first a_possible (n + 1) (nI d) := by
  intro n
  induction n with
  | zero =>
    intro d hd _ h0
    exact br_t (nI_le (a := 7) (by omega) (by omega)) (h0 (fun i' h1 h2 => absurd h2 (by omega)))
  | succ n ih =>
    intro d hd h1 h0
    have hP := hA.1 c hc
    refine br_f (nI_ge (b := 7) (by omega) (by decide)) (xw_has hA hc (by omega) (fun hb => ?_) (fun hb => ?_))
    · have ext : ∀ i, (∀ i', d + 1 ≤ i' → i' < i → (P c).testBit i' = true) → ∀ i', d ≤ i' → i' < i → (P c).testBit i' = true := by
        intro i h2 i' h3 h4
        by_cases h5 : i' = d
        · rw [h5]; exact hb
        · exact h2 i' (by omega) h4
      exact br_f (by decide) (nm_r (nI_1 d) (ih (d + 1) (by omega) (fun i h2 h3 h4 h5 => h1 i (by omega) h3 (ext i h4) h5) (fun h2 => h0 (ext 7 h2))))
    · have h2 := h1 d (Nat.le_refl d) (by omega) (fun i' h3 h4 => absurd h4 (by omega)) hb
      refine br_t rfl ⟨vp_in_nI hc (by decide), vp_in_nI hc (by decide), ?_⟩
      rw [nI_clamp (n := c) (by omega), hP.2, ar_or (P c) hP.1 d (by omega), ar_nar8 (ar_or_lt (P c) hP.1 d (by omega)), ar_c7, nI_clamp (n := 7 * c + d) (by omega), ar_nar8 (p := t) (by omega)]
      refine nm_e ⟨vp_in_nI (by omega) (by decide), nm_e (pk_eq t 2 (fun e => ?_) (fun ne => ?_))⟩
      · refine xw_add136 (g := 0) hc (by omega) hx hy (by decide) ?_
        have e3 : (mt_nrm t g x y).2.1 = 0 := if_pos e
        rw [e3] at h2
        exact h2
      · refine xw_add136 hc (by omega) hx hy hg ?_
        have e3 : (mt_nrm t g x y).2.1 = g := if_neg ne
        rw [e3] at h2
        exact h2
theorem yw_add57 {post : Int32 → SY → Prop} (hA : yw_A P D ty gt xs ys nm b_there b_types b_gates b_xs b_ys b_names) {c : Nat} {x2 x3 : Int32} (hc : c < 2) : ∀ (n d : Nat), d + n = 7 → (∀ i, d ≤ i → i < 7 → (∀ i', d ≤ i' → i' < i → (P c).testBit i' = true) → (P c).testBit i = false → post (nI i) ((upd b_there (7 * c + i) 1), (upd b_types (7 * c + i) x2), (upd b_gates (7 * c + i) (x3 &&& 7)), (upd b_xs (7 * c + i) ((x3 >>> ((3 : Int32) &&& 31)) &&& 7)), (upd b_ys (7 * c + i) (x3 >>> ((6 : Int32) &&& 31))), b_names, b_to)) → ((∀ i', d ≤ i' → i' < 7 → (P c).testBit i' = true) → post (-2) (b_there, b_types, b_gates, b_xs, b_ys, b_names, b_to)) → wY_add_57 post (nI c) x2 x3 b_there b_types b_gates b_xs b_ys b_names b_to (n + 1) (nI d) := by
  intro n
  induction n with
  | zero =>
    intro d hd _ h0
    exact br_t (nI_le (a := 7) (by omega) (by omega)) (h0 (fun i' h1 h2 => absurd h2 (by omega)))
  | succ n ih =>
    intro d hd h1 h0
    have hin : vp_in (nI (7 * c + d)) 14 := vp_in_nI (by omega) (by decide)
    refine br_f (nI_ge (b := 7) (by omega) (by decide)) (nm_r (ar_7c c d) ⟨hin, ?_⟩)
    rw [nI_clamp (n := 7 * c + d) (by omega), ar_b1]
    refine yw_there hA hc (by omega) (fun hb => ⟨hin, nm_e ⟨hin, nm_e ⟨hin, nm_e ⟨hin, nm_e ⟨hin, nm_e ?_⟩⟩⟩⟩⟩) (fun hb => ?_)
    · exact h1 d (Nat.le_refl d) (by omega) (fun i' h3 h4 => absurd h4 (by omega)) hb
    · have ext : ∀ i, (∀ i', d + 1 ≤ i' → i' < i → (P c).testBit i' = true) → ∀ i', d ≤ i' → i' < i → (P c).testBit i' = true := by
        intro i h2 i' h3 h4
        by_cases h5 : i' = d
        · rw [h5]; exact hb
        · exact h2 i' (by omega) h4
      exact nm_r (nI_1 d) (ih (d + 1) (by omega) (fun i h2 h3 h4 h5 => h1 i (by omega) h3 (ext i h4) h5) (fun h2 => h0 (ext 7 h2)))
theorem yw_dev4 {post : Int32 → Prop} (hA : yw_A P D ty gt xs ys nm b_there b_types b_gates b_xs b_ys b_names) {c : Nat} (hc : c < 2) : ∀ (n d s : Nat), d + n = 7 → s < 128 → post (nI ((List.range' d n).foldl (fun s d => if (P c).testBit d then s ||| 2 ^ d else s) s)) → wY_devices_4 post (nI c) b_there b_types b_gates b_xs b_ys b_names b_to (n + 1) (nI s) (nI d) := by
  intro n
  induction n with
  | zero =>
    intro d s hd _ h
    exact br_t (nI_le (a := 7) (by omega) (by omega)) h
  | succ n ih =>
    intro d s hd hs h
    rw [List.range'_succ, List.foldl_cons] at h
    refine br_f (nI_ge (b := 7) (by omega) (by decide)) (yw_circ hc (br_f (by decide) ?_))
    rw [ar_7c, nI_clamp (n := 7 * c + d) (by omega)]
    refine ⟨vp_in_nI (by omega) (by decide), yw_there hA hc (by omega) (fun hb => nm_r (nI_1 d) (ih (d + 1) s (by omega) hs ?_)) (fun hb => nm_r (ar_or s hs d (by omega)) (nm_r (nI_1 d) (ih (d + 1) _ (by omega) (ar_or_lt s hs d (by omega)) ?_)))⟩
    · rw [hb] at h
      exact h
    · rw [hb] at h
      exact h
theorem xw_deg94 {post : Int32 → Prop} {J : Int32 → Int32 → Prop} {q hi i d m z : Nat} {x1 : Int32} (hq : q < 14) (hO : a_others q = nI hi) (hhi : hi < 6) (hii : i < 6) (h : J (nI (m + z + (if hi = i then 1 else 0))) (nI (d + 1))) : wX_degree_94 post J x1 (nI i) (nI d) (nI q) (nI z) (nI m) f_one f_other f_pinnedNet f_pinnedTo f_found a_present a_types a_gates a_ends a_others a_names a_marks a_nextMarks a_chosen a_first a_possible := by
  unfold wX_degree_94
  rw [nI_clamp (n := q) (by omega), hO]
  refine nm_r (nI_add m z) ⟨vp_in_nI hq (by decide), pk_eq hi i (fun e => nm_r (nI_1 _) (nm_r (nI_1 d) ?_)) (fun ne => nm_r (e' := nI (m + z)) (Int32.add_zero _) (nm_r (nI_1 d) ?_))⟩
  · rw [if_pos e] at h
    exact h
  · rw [if_neg ne] at h
    exact h
theorem xw_deg75 {post : Int32 → Prop} {J : Int32 → Int32 → Prop} {q lo hi i d m z : Nat} {x1 : Int32} (hq : q < 14) (hE : a_ends q = nI lo) (hO : a_others q = nI hi) (hlo : lo < 6) (hhi : hi < 6) (hii : i < 6) (h : J (nI (m + z + (if lo = i then 1 else 0) + (if hi = i then 1 else 0))) (nI (d + 1))) : wX_degree_75 post J x1 (nI i) (nI d) (nI q) (nI z) (nI m) f_one f_other f_pinnedNet f_pinnedTo f_found a_present a_types a_gates a_ends a_others a_names a_marks a_nextMarks a_chosen a_first a_possible := by
  unfold wX_degree_75
  rw [nI_clamp (n := q) (by omega), hE]
  refine nm_r (nI_add m z) ⟨vp_in_nI hq (by decide), pk_eq lo i (fun e => xw_deg94 (z := 1) hq hO hhi hii ?_) (fun ne => xw_deg94 (z := 0) hq hO hhi hii ?_)⟩
  · rw [if_pos e] at h
    exact h
  · rw [if_neg ne] at h
    exact h
theorem xw_deg21 {post : Int32 → Prop} (hA : xw_A P D a_present a_types a_gates a_ends a_others) {c i : Nat} (hc : c < 2) (hii : i < 6) : ∀ (n d m : Nat), d + n = 7 → post (nI (m + mt_dg (P c) (fun d => D (7 * c + d)) i n d)) → wX_degree_21 post (nI c) (nI i) f_one f_other f_pinnedNet f_pinnedTo f_found a_present a_types a_gates a_ends a_others a_names a_marks a_nextMarks a_chosen a_first a_possible (n + 1) (nI m) (nI d) := by
  intro n
  induction n with
  | zero =>
    intro d m hd h
    exact br_t (nI_le (a := 7) (by omega) (by omega)) h
  | succ n ih =>
    intro d m hd h
    have hq : 7 * c + d < 14 := by omega
    obtain ⟨ok, hT, hGt, hE, hO⟩ := hA.2 _ hq
    have hin : vp_in (nI (7 * c + d)) 14 := vp_in_nI hq (by decide)
    have hb1 : (D (7 * c + d)).1 < 3 := ok.1
    have hb2 : (D (7 * c + d)).2.1 < 6 := ok.2.1
    have hb3 : (D (7 * c + d)).2.2.1 < 6 := Nat.lt_of_le_of_lt ok.2.2.1 ok.2.2.2.1
    have hb4 : (D (7 * c + d)).2.2.2 < 6 := ok.2.2.2.1
    unfold mt_dg at h
    refine br_f (nI_ge (b := 7) (by omega) (by decide)) (xw_has hA hc (by omega) (fun hb => br_f (by decide) (nm_r (ar_c7 c d) ⟨hin, ?_⟩)) (fun hb => br_t rfl (nm_r (nI_1 d) (ih (d + 1) m (by omega) ?_))))
    · rw [hb, if_pos rfl] at h
      have G : ∀ z : Nat, (if (D (7 * c + d)).1 ≠ 2 ∧ (D (7 * c + d)).2.1 = i then 1 else 0) = z → wX_degree_75 post (wX_degree_21 post (nI c) (nI i) f_one f_other f_pinnedNet f_pinnedTo f_found a_present a_types a_gates a_ends a_others a_names a_marks a_nextMarks a_chosen a_first a_possible (n + 1)) (nI c) (nI i) (nI d) (nI (7 * c + d)) (nI z) (nI m) f_one f_other f_pinnedNet f_pinnedTo f_found a_present a_types a_gates a_ends a_others a_names a_marks a_nextMarks a_chosen a_first a_possible := by
        intro z ez
        refine xw_deg75 hq hE hO hb3 hb4 hii (ih (d + 1) _ (by omega) ?_)
        unfold mt_cD at h
        rw [ez] at h
        rw [show m + z + (if (D (7 * c + d)).2.2.1 = i then 1 else 0) + (if (D (7 * c + d)).2.2.2 = i then 1 else 0) + mt_dg (P c) (fun d => D (7 * c + d)) i n (d + 1) = m + (z + (if (D (7 * c + d)).2.2.1 = i then 1 else 0) + (if (D (7 * c + d)).2.2.2 = i then 1 else 0) + mt_dg (P c) (fun d => D (7 * c + d)) i n (d + 1)) from by omega]
        exact h
      rw [nI_clamp (n := 7 * c + d) (by omega), hT, hGt]
      refine pk_eq (D (7 * c + d)).1 2 (fun e => G 0 (if_neg (fun y => y.1 e))) (fun ne => ⟨hin, pk_eq (D (7 * c + d)).2.1 i (fun e2 => G 1 (if_pos ⟨ne, e2⟩)) (fun ne2 => G 0 (if_neg (fun y => ne2 y.2)))⟩)
    · rw [hb] at h
      have e2 : (if false = true then mt_cD (D (7 * c + d)) i else 0) = 0 := rfl
      rw [e2, Nat.zero_add] at h
      exact h
theorem yw_deg83 {post : Int32 → Prop} {J : Int32 → Int32 → Prop} {q t g i d m z : Nat} {x1 : Int32} (hq : q < 14) (hT : b_types q = nI t) (hG : b_gates q = nI g) (ht : t < 3) (hg : g < 6) (hii : i < 6) (h : J (nI (m + z + (if t ≠ 2 ∧ g = i then 1 else 0))) (nI (d + 1))) : wY_degree_83 post J x1 (nI i) (nI d) (nI q) (nI z) (nI m) b_there b_types b_gates b_xs b_ys b_names b_to := by
  have hin : vp_in (nI q) 14 := vp_in_nI hq (by decide)
  unfold wY_degree_83
  rw [nI_clamp (n := q) (by omega), hT, hG, nI_add]
  refine ⟨hin, pk_eq t 2 (fun e => nm_r (e' := nI (m + z)) (Int32.add_zero _) (nm_r (nI_1 d) ?_)) (fun ne => ⟨hin, pk_eq g i (fun e2 => nm_r (nI_1 _) (nm_r (nI_1 d) ?_)) (fun ne2 => nm_r (e' := nI (m + z)) (Int32.add_zero _) (nm_r (nI_1 d) ?_))⟩)⟩
  · rw [if_neg (fun y => y.1 e)] at h
    exact h
  · rw [if_pos ⟨ne, e2⟩] at h
    exact h
  · rw [if_neg (fun y => ne2 y.2)] at h
    exact h
theorem yw_deg66 {post : Int32 → Prop} {J : Int32 → Int32 → Prop} {q t g y i d m z : Nat} {x1 : Int32} (hq : q < 14) (hT : b_types q = nI t) (hG : b_gates q = nI g) (hY : b_ys q = nI y) (ht : t < 3) (hg : g < 6) (hy : y < 6) (hii : i < 6) (h : J (nI (m + z + (if y = i then 1 else 0) + (if t ≠ 2 ∧ g = i then 1 else 0))) (nI (d + 1))) : wY_degree_66 post J x1 (nI i) (nI d) (nI q) (nI z) (nI m) b_there b_types b_gates b_xs b_ys b_names b_to := by
  unfold wY_degree_66
  rw [nI_clamp (n := q) (by omega), hY, nI_add]
  refine ⟨vp_in_nI hq (by decide), pk_eq y i (fun e => yw_deg83 (z := 1) hq hT hG ht hg hii ?_) (fun ne => yw_deg83 (z := 0) hq hT hG ht hg hii ?_)⟩
  · rw [if_pos e] at h
    exact h
  · rw [if_neg ne] at h
    exact h
theorem yw_deg23 {post : Int32 → Prop} (hA : yw_A P D ty gt xs ys nm b_there b_types b_gates b_xs b_ys b_names) {c i : Nat} (hc : c < 2) (hii : i < 6) : ∀ (n d m : Nat), d + n = 7 → post (nI (m + mt_dg (P c) (fun d => D (7 * c + d)) i n d)) → wY_degree_23 post (nI c) (nI i) b_there b_types b_gates b_xs b_ys b_names b_to (n + 1) (nI m) (nI d) := by
  intro n
  induction n with
  | zero =>
    intro d m hd h
    exact br_t (nI_le (a := 7) (by omega) (by omega)) h
  | succ n ih =>
    intro d m hd h
    have hq : 7 * c + d < 14 := by omega
    obtain ⟨⟨b1, b2, b3, b4⟩, ⟨v1, v2, v3, v4⟩, eD⟩ := hA.2.1 _ hq
    have hin : vp_in (nI (7 * c + d)) 14 := vp_in_nI hq (by decide)
    unfold mt_dg at h
    refine br_f (nI_ge (b := 7) (by omega) (by decide)) (nm_r (ar_7c c d) ⟨hin, ?_⟩)
    rw [nI_clamp (n := 7 * c + d) (by omega)]
    refine yw_there hA hc (by omega) (fun hb => nm_r (nI_1 d) (ih (d + 1) m (by omega) ?_)) (fun hb => ⟨hin, ?_⟩)
    · rw [hb] at h
      have e2 : (if false = true then mt_cD (D (7 * c + d)) i else 0) = 0 := rfl
      rw [e2, Nat.zero_add] at h
      exact h
    · rw [hb, if_pos rfl] at h
      rw [eD, mt_cD_nrm] at h
      have G : ∀ z : Nat, (if xs (7 * c + d) = i then 1 else 0) = z → wY_degree_66 post (wY_degree_23 post (nI c) (nI i) b_there b_types b_gates b_xs b_ys b_names b_to (n + 1)) (nI c) (nI i) (nI d) (nI (7 * c + d)) (nI z) (nI m) b_there b_types b_gates b_xs b_ys b_names b_to := by
        intro z ez
        refine yw_deg66 hq v1 v2 v4 b1 b2 b4 hii (ih (d + 1) _ (by omega) ?_)
        rw [ez] at h
        rw [show m + z + (if ys (7 * c + d) = i then 1 else 0) + (if ty (7 * c + d) ≠ 2 ∧ gt (7 * c + d) = i then 1 else 0) + mt_dg (P c) (fun d => D (7 * c + d)) i n (d + 1) = m + (z + (if ys (7 * c + d) = i then 1 else 0) + (if ty (7 * c + d) ≠ 2 ∧ gt (7 * c + d) = i then 1 else 0) + mt_dg (P c) (fun d => D (7 * c + d)) i n (d + 1)) from by omega]
        exact h
      rw [v3]
      exact pk_eq (xs (7 * c + d)) i (fun e => G 1 (if_pos e)) (fun ne => G 0 (if_neg ne))
end
end
section
/-! the relation, and the methods that do not search -/
def re_R (P : Nat → Nat) (D : Nat → MtDV) (ty gt xs ys nm : Nat → Nat) (u : SX) (v : SY) : Prop := match u, v with
  | (f_one, f_other, f_pinnedNet, f_pinnedTo, f_found, a_present, a_types, a_gates, a_ends, a_others, a_names, a_marks, a_nextMarks, a_chosen, a_first, a_possible), (b_there, b_types, b_gates, b_xs, b_ys, b_names, b_to) => xw_A P D a_present a_types a_gates a_ends a_others ∧ (∀ q, q < 12 → nm q < 5 ∧ a_names q = nI (nm q) + (-1)) ∧ yw_A P D ty gt xs ys nm b_there b_types b_gates b_xs b_ys b_names
/-- both objects hold the same two circuits and names -/
def i_Rel (k : Nat) (u : SX) (v : SY) : Prop := ∃ (P : Nat → Nat) (D : Nat → MtDV) (ty gt xs ys nm : Nat → Nat), re_R P D ty gt xs ys nm u v
theorem i_up {k : Nat} {u : SX} {v : SY} (h : i_Rel k u v) : i_Rel (k + 4) u v := h
def re_bad (z : Int32) : Prop := z < 0 ∨ nI 6 ≤ z
theorem re_good {j : Nat} (hj : j < 6) (h : re_bad (nI j)) : False := by
  rcases h with h | h
  · exact nI_pos (by omega) h
  · exact nI_ge (b := 6) hj (by decide) h
theorem re_circ {c : Nat} (hc : c < 2) (h : ¬ nI c = 0 ∧ ¬ nI c = 1) : False := by
  rcases (by omega : c = 0 ∨ c = 1) with rfl | rfl
  · exact h.1 rfl
  · exact h.2 rfl
def re_badA (x1 x2 x3 : Int32) : Prop := (¬ x1 = 0 ∧ ¬ x1 = 1) ∨ (x2 < 0 ∨ nI 3 ≤ x2) ∨ re_bad (x3 &&& 7) ∨ re_bad ((x3 >>> ((3 : Int32) &&& 31)) &&& 7) ∨ re_bad (x3 >>> ((6 : Int32) &&& 31))
section
variable {f_one f_other f_pinnedNet f_pinnedTo f_found : Int32} {a_present a_types a_gates a_ends a_others a_names a_marks a_nextMarks a_chosen a_first a_possible : Nat → Int32}
variable {b_there b_types b_gates b_xs b_ys b_names b_to : Nat → Int32}
variable {P : Nat → Nat} {D : Nat → MtDV} {ty gt xs ys nm : Nat → Nat} {k : Nat}
theorem re_mk (hX : xw_A P D a_present a_types a_gates a_ends a_others) (hN : ∀ q, q < 12 → nm q < 5 ∧ a_names q = nI (nm q) + (-1)) (hY : yw_A P D ty gt xs ys nm b_there b_types b_gates b_xs b_ys b_names) : i_Rel k (f_one, f_other, f_pinnedNet, f_pinnedTo, f_found, a_present, a_types, a_gates, a_ends, a_others, a_names, a_marks, a_nextMarks, a_chosen, a_first, a_possible) (b_there, b_types, b_gates, b_xs, b_ys, b_names, b_to) := ⟨P, D, ty, gt, xs, ys, nm, hX, hN, hY⟩
theorem xw_init93 {post : SX → Prop} : ∀ (n i : Nat) (ns : Nat → Int32), i + n = 12 → (∀ i', i' < i → ns i' = -1) → (∀ ns' : Nat → Int32, (∀ i, i < 12 → ns' i = -1) → post (f_one, f_other, f_pinnedNet, f_pinnedTo, f_found, a_present, a_types, a_gates, a_ends, a_others, ns', a_marks, a_nextMarks, a_chosen, a_first, a_possible)) → wX_init_93 post f_one f_other f_pinnedNet f_pinnedTo f_found (n + 1) (nI i) a_present a_types a_gates a_ends a_others ns a_marks a_nextMarks a_chosen a_first a_possible := by
  intro n
  induction n with
  | zero =>
    intro i ns hi h1 h
    exact br_t (nI_le (a := 12) (by omega) (by omega)) (h ns (fun i' h2 => h1 i' (by omega)))
  | succ n ih =>
    intro i ns hi h1 h
    refine br_f (nI_ge (b := 12) (by omega) (by decide)) ⟨vp_in_nI (by omega) (by decide), ?_⟩
    rw [nI_clamp (by omega), ar_narM]
    refine nm_e (nm_r (nI_1 i) (ih (i + 1) _ (by omega) (fun i' h2 => ?_) h))
    by_cases e : i' = i
    · rw [e, pk_us]
    · rw [pk_un e]
      exact h1 i' (by omega)
theorem xw_addBad {post : Int32 → SX → Prop} {x1 x2 x3 : Int32} (hb : re_badA x1 x2 x3) (h : post (-1) (f_one, f_other, f_pinnedNet, f_pinnedTo, f_found, a_present, a_types, a_gates, a_ends, a_others, a_names, a_marks, a_nextMarks, a_chosen, a_first, a_possible)) : wpX_add post (f_one, f_other, f_pinnedNet, f_pinnedTo, f_found, a_present, a_types, a_gates, a_ends, a_others, a_names, a_marks, a_nextMarks, a_chosen, a_first, a_possible) x1 x2 x3 := by
  unfold re_badA at hb
  unfold wpX_add
  dsimp only
  refine nm_e (nm_e (nm_e ?_))
  generalize x3 &&& 7 = zg at hb ⊢
  generalize (x3 >>> ((3 : Int32) &&& 31)) &&& 7 = zx at hb ⊢
  generalize x3 >>> ((6 : Int32) &&& 31) = zy at hb ⊢
  rcases ar_01 x1 with ⟨c, hc, rfl⟩ | ⟨n0, n1⟩
  · refine xw_circ hc (br_f (by decide) ?_)
    by_cases h0 : x2 < 0
    · exact br_t h0 h
    · refine br_f h0 ?_
      by_cases h3 : (3 : Int32) ≤ x2
      · exact br_t h3 h
      · refine br_f h3 ?_
        rcases pk_ix zg (n := 6) (by decide) with hg | hg | ⟨g, hg, rfl⟩
        · exact xw_netN (Or.inl hg) (br_t rfl h)
        · exact xw_netN (Or.inr hg) (br_t rfl h)
        · refine xw_net hg (br_f (by decide) ?_)
          rcases pk_ix zx (n := 6) (by decide) with hx | hx | ⟨x, hx, rfl⟩
          · exact xw_netN (Or.inl hx) (br_t rfl h)
          · exact xw_netN (Or.inr hx) (br_t rfl h)
          · refine xw_net hx (br_f (by decide) ?_)
            rcases pk_ix zy (n := 6) (by decide) with hy | hy | ⟨y, hy, rfl⟩
            · exact xw_netN (Or.inl hy) (br_t rfl h)
            · exact xw_netN (Or.inr hy) (br_t rfl h)
            · rcases hb with hb | hb | hb | hb | hb
              · exact (re_circ hc hb).elim
              · exact (hb.elim h0 h3).elim
              · exact (re_good hg hb).elim
              · exact (re_good hx hb).elim
              · exact (re_good hy hb).elim
  · exact xw_circN n0 n1 (br_t rfl h)
theorem re_lt23 {x : Int32} : 2 < x ↔ nI 3 ≤ x := by
  rw [Int32.le_iff_toInt_le, nI_toInt (by decide), Int32.lt_iff_toInt_lt, show (2 : Int32).toInt = 2 from by decide]
  omega
theorem re_lt67 {x : Int32} : 6 < x ↔ nI 7 ≤ x := by
  rw [Int32.le_iff_toInt_le, nI_toInt (by decide), Int32.lt_iff_toInt_lt, show (6 : Int32).toInt = 6 from by decide]
  omega
theorem yw_addBad {post : Int32 → SY → Prop} {x1 x2 x3 : Int32} (hb : re_badA x1 x2 x3) (h : post (-1) (b_there, b_types, b_gates, b_xs, b_ys, b_names, b_to)) : wpY_add post (b_there, b_types, b_gates, b_xs, b_ys, b_names, b_to) x1 x2 x3 := by
  unfold re_badA at hb
  unfold wpY_add
  dsimp only
  generalize x3 &&& 7 = zg at hb ⊢
  generalize (x3 >>> ((3 : Int32) &&& 31)) &&& 7 = zx at hb ⊢
  generalize x3 >>> ((6 : Int32) &&& 31) = zy at hb ⊢
  rcases ar_01 x1 with ⟨c, hc, rfl⟩ | ⟨n0, n1⟩
  · refine yw_circ hc (br_f (by decide) ?_)
    by_cases h0 : x2 < 0
    · exact br_t h0 h
    · refine br_f h0 ?_
      by_cases h3 : (2 : Int32) < x2
      · exact br_t h3 h
      · refine br_f h3 ?_
        rcases pk_ix zg (n := 6) (by decide) with hg | hg | ⟨g, hg, rfl⟩
        · exact yw_netN (Or.inl hg) (br_t rfl h)
        · exact yw_netN (Or.inr hg) (br_t rfl h)
        · refine yw_net hg (br_f (by decide) ?_)
          rcases pk_ix zx (n := 6) (by decide) with hx | hx | ⟨x, hx, rfl⟩
          · exact yw_netN (Or.inl hx) (br_t rfl h)
          · exact yw_netN (Or.inr hx) (br_t rfl h)
          · refine yw_net hx (br_f (by decide) ?_)
            rcases pk_ix zy (n := 6) (by decide) with hy | hy | ⟨y, hy, rfl⟩
            · exact yw_netN (Or.inl hy) (br_t rfl h)
            · exact yw_netN (Or.inr hy) (br_t rfl h)
            · rcases hb with hb | hb | hb | hb | hb
              · exact (re_circ hc hb).elim
              · exact (hb.elim h0 (fun z => h3 (re_lt23.mpr z))).elim
              · exact (re_good hg hb).elim
              · exact (re_good hx hb).elim
              · exact (re_good hy hb).elim
  · exact yw_circN n0 n1 (br_t rfl h)
theorem xw_addOk {post : Int32 → SX → Prop} (hA : xw_A P D a_present a_types a_gates a_ends a_others) {c t g x y : Nat} {x3 : Int32} (hc : c < 2) (ht : t < 3) (hg : g < 6) (hx : x < 6) (hy : y < 6) (eg : x3 &&& 7 = nI g) (ex : (x3 >>> ((3 : Int32) &&& 31)) &&& 7 = nI x) (ey : x3 >>> ((6 : Int32) &&& 31) = nI y) (h1 : ∀ i, i < 7 → (∀ i', i' < i → (P c).testBit i' = true) → (P c).testBit i = false → post (nI i) (f_one, f_other, f_pinnedNet, f_pinnedTo, f_found, (upd a_present c (nI (P c ||| 2 ^ i))), (upd a_types (7 * c + i) (nI (mt_nrm t g x y).1)), (upd a_gates (7 * c + i) (nI (mt_nrm t g x y).2.1)), (upd a_ends (7 * c + i) (nI (mt_nrm t g x y).2.2.1)), (upd a_others (7 * c + i) (nI (mt_nrm t g x y).2.2.2)), a_names, a_marks, a_nextMarks, a_chosen, a_first, a_possible)) (h0 : (∀ i', i' < 7 → (P c).testBit i' = true) → post (-2) (f_one, f_other, f_pinnedNet, f_pinnedTo, f_found, a_present, a_types, a_gates, a_ends, a_others, a_names, a_marks, a_nextMarks, a_chosen, a_first, a_possible)) : wpX_add post (f_one, f_other, f_pinnedNet, f_pinnedTo, f_found, a_present, a_types, a_gates, a_ends, a_others, a_names, a_marks, a_nextMarks, a_chosen, a_first, a_possible) (nI c) (nI t) x3 := by
  unfold wpX_add
  dsimp only
  refine nm_r eg (nm_r ex (nm_r ey ?_))
  refine xw_circ hc (br_f (by decide) (br_f (nI_pos (by omega)) (br_f (nI_ge (b := 3) ht (by decide)) ?_)))
  refine xw_net hg (br_f (by decide) ?_)
  refine xw_net hx (br_f (by decide) ?_)
  refine xw_net hy (br_f (by decide) ⟨8, ?_⟩)
  exact xw_add65 hA hc ht hg hx hy 7 0 rfl (fun i _ h2 h3 h4 => h1 i h2 (fun i' h5 => h3 i' (Nat.zero_le _) h5) h4) (fun h2 => h0 (fun i' h5 => h2 i' (Nat.zero_le _) h5))
theorem yw_addOk {post : Int32 → SY → Prop} (hA : yw_A P D ty gt xs ys nm b_there b_types b_gates b_xs b_ys b_names) {c t g x y : Nat} {x3 : Int32} (hc : c < 2) (ht : t < 3) (hg : g < 6) (hx : x < 6) (hy : y < 6) (eg : x3 &&& 7 = nI g) (ex : (x3 >>> ((3 : Int32) &&& 31)) &&& 7 = nI x) (ey : x3 >>> ((6 : Int32) &&& 31) = nI y) (h1 : ∀ i, i < 7 → (∀ i', i' < i → (P c).testBit i' = true) → (P c).testBit i = false → post (nI i) ((upd b_there (7 * c + i) 1), (upd b_types (7 * c + i) (nI t)), (upd b_gates (7 * c + i) (nI g)), (upd b_xs (7 * c + i) (nI x)), (upd b_ys (7 * c + i) (nI y)), b_names, b_to)) (h0 : (∀ i', i' < 7 → (P c).testBit i' = true) → post (-2) (b_there, b_types, b_gates, b_xs, b_ys, b_names, b_to)) : wpY_add post (b_there, b_types, b_gates, b_xs, b_ys, b_names, b_to) (nI c) (nI t) x3 := by
  unfold wpY_add
  dsimp only
  rw [eg, ex, ey]
  refine yw_circ hc (br_f (by decide) (br_f (nI_pos (by omega)) (br_f (nI_nlt (a := 2) (by omega) (by decide)) ?_)))
  refine yw_net hg (br_f (by decide) ?_)
  refine yw_net hx (br_f (by decide) ?_)
  refine yw_net hy (br_f (by decide) ⟨8, ?_⟩)
  refine yw_add57 hA hc 7 0 rfl (fun i _ h2 h3 h4 => ?_) (fun h2 => h0 (fun i' h5 => h2 i' (Nat.zero_le _) h5))
  rw [eg, ex, ey]
  exact h1 i h2 (fun i' h5 => h3 i' (Nat.zero_le _) h5) h4
end
theorem i_vc0 : wpX_init (fun u => wpY_init (fun v => i_Rel 0 u v)) := by
  refine ⟨13, xw_init93 12 0 _ rfl (fun i' h => absurd h (Nat.not_lt_zero i')) (fun ns h => ?_)⟩
  refine re_mk (k := 0) (P := fun _ => 0) (D := fun _ => mt_nrm 0 0 0 0) (ty := fun _ => 0) (gt := fun _ => 0) (xs := fun _ => 0) (ys := fun _ => 0) (nm := fun _ => 0) ?_ ?_ ?_
  · exact ⟨fun c _ => ⟨Nat.zero_lt_succ _, rfl⟩, fun q _ => ⟨mt_nrm_ok (by decide) (by decide) (by decide) (by decide), rfl, rfl, rfl, rfl⟩⟩
  · intro q hq
    exact ⟨Nat.zero_lt_succ _, h q hq⟩
  · refine ⟨fun c _ d _ => ?_, fun q _ => ⟨⟨Nat.zero_lt_succ _, Nat.zero_lt_succ _, Nat.zero_lt_succ _, Nat.zero_lt_succ _⟩, ⟨rfl, rfl, rfl, rfl⟩, rfl⟩, fun q _ => ⟨Nat.zero_lt_succ _, rfl⟩⟩
    rw [Nat.zero_testBit]
    rfl
theorem i_vc_add {k : Nat} {u : SX} {v : SY} (I : i_Rel k u v) (hk : k + 4 ≤ 2048) (v1 : Int32) (v2 : Int32) (v3 : Int32) : wpX_add (fun r u' => wpY_add (fun r' v' => r' = r ∧ i_Rel (k + 4) u' v') v v1 v2 v3) u v1 v2 v3 := by
  obtain ⟨P, D, ty, gt, xs, ys, nm, h⟩ := I
  obtain ⟨f_one, f_other, f_pinnedNet, f_pinnedTo, f_found, a_present, a_types, a_gates, a_ends, a_others, a_names, a_marks, a_nextMarks, a_chosen, a_first, a_possible⟩ := u
  obtain ⟨b_there, b_types, b_gates, b_xs, b_ys, b_names, b_to⟩ := v
  obtain ⟨hX, hN, hY⟩ := h
  have J : i_Rel (k + 4) (f_one, f_other, f_pinnedNet, f_pinnedTo, f_found, a_present, a_types, a_gates, a_ends, a_others, a_names, a_marks, a_nextMarks, a_chosen, a_first, a_possible) (b_there, b_types, b_gates, b_xs, b_ys, b_names, b_to) := re_mk hX hN hY
  have B : re_badA v1 v2 v3 → wpX_add (fun r u' => wpY_add (fun r' v' => r' = r ∧ i_Rel (k + 4) u' v') (b_there, b_types, b_gates, b_xs, b_ys, b_names, b_to) v1 v2 v3) (f_one, f_other, f_pinnedNet, f_pinnedTo, f_found, a_present, a_types, a_gates, a_ends, a_others, a_names, a_marks, a_nextMarks, a_chosen, a_first, a_possible) v1 v2 v3 := fun hb => xw_addBad hb (yw_addBad hb ⟨rfl, J⟩)
  rcases ar_01 v1 with ⟨c, hc, rfl⟩ | hn
  · rcases pk_ix v2 (n := 3) (by decide) with ht | ht | ⟨t, ht, rfl⟩
    · exact B (Or.inr (Or.inl (Or.inl ht)))
    · exact B (Or.inr (Or.inl (Or.inr ht)))
    · rcases pk_ix (v3 &&& 7) (n := 6) (by decide) with hg | hg | ⟨g, hg, eg⟩
      · exact B (Or.inr (Or.inr (Or.inl (Or.inl hg))))
      · exact B (Or.inr (Or.inr (Or.inl (Or.inr hg))))
      · rcases pk_ix ((v3 >>> ((3 : Int32) &&& 31)) &&& 7) (n := 6) (by decide) with hx | hx | ⟨x, hx, ex⟩
        · exact B (Or.inr (Or.inr (Or.inr (Or.inl (Or.inl hx)))))
        · exact B (Or.inr (Or.inr (Or.inr (Or.inl (Or.inr hx)))))
        · rcases pk_ix (v3 >>> ((6 : Int32) &&& 31)) (n := 6) (by decide) with hy | hy | ⟨y, hy, ey⟩
          · exact B (Or.inr (Or.inr (Or.inr (Or.inr (Or.inl hy)))))
          · exact B (Or.inr (Or.inr (Or.inr (Or.inr (Or.inr hy)))))
          · refine xw_addOk hX hc ht hg hx hy eg ex ey (fun i h2 h3 h4 => yw_addOk hY hc ht hg hx hy eg ex ey (fun i' h2' h3' h4' => ?_) (fun h5 => ?_)) (fun h5 => yw_addOk hY hc ht hg hx hy eg ex ey (fun i' h2' h3' h4' => ?_) (fun _ => ⟨rfl, J⟩))
            · have e : i' = i := by
                rcases Nat.lt_trichotomy i' i with z | z | z
                · exact absurd ((h3 i' z).symm.trans h4') (by decide)
                · exact z
                · exact absurd ((h3' i z).symm.trans h4) (by decide)
              subst e
              exact ⟨rfl, re_mk (xw_A_put hX hc h2 (mt_nrm_ok ht hg hx hy)) hN (yw_A_put hY hc h2 (hX.1 c hc).1 ht hg hx hy)⟩
            · exact absurd ((h5 i h2).symm.trans h4) (by decide)
            · exact absurd ((h5 i' h2').symm.trans h4') (by decide)
  · exact B (Or.inl hn)
theorem i_vc_remove {k : Nat} {u : SX} {v : SY} (I : i_Rel k u v) (hk : k + 4 ≤ 2048) (v1 : Int32) (v2 : Int32) : wpX_remove (fun r u' => wpY_remove (fun r' v' => r' = r ∧ i_Rel (k + 4) u' v') v v1 v2) u v1 v2 := by
  obtain ⟨P, D, ty, gt, xs, ys, nm, h⟩ := I
  obtain ⟨f_one, f_other, f_pinnedNet, f_pinnedTo, f_found, a_present, a_types, a_gates, a_ends, a_others, a_names, a_marks, a_nextMarks, a_chosen, a_first, a_possible⟩ := u
  obtain ⟨b_there, b_types, b_gates, b_xs, b_ys, b_names, b_to⟩ := v
  obtain ⟨hX, hN, hY⟩ := h
  have J : i_Rel (k + 4) (f_one, f_other, f_pinnedNet, f_pinnedTo, f_found, a_present, a_types, a_gates, a_ends, a_others, a_names, a_marks, a_nextMarks, a_chosen, a_first, a_possible) (b_there, b_types, b_gates, b_xs, b_ys, b_names, b_to) := re_mk hX hN hY
  unfold wpX_remove
  dsimp only
  rcases ar_01 v1 with ⟨c, hc, rfl⟩ | ⟨n0, n1⟩
  · rcases pk_ix v2 (n := 7) (by decide) with h | h | ⟨d, hd, rfl⟩
    · refine xw_hasN (Or.inr (Or.inl h)) (br_t rfl ?_)
      unfold wpY_remove
      dsimp only
      exact yw_circ hc (br_f (by decide) (br_t h ⟨rfl, J⟩))
    · refine xw_hasN (Or.inr (Or.inr h)) (br_t rfl ?_)
      unfold wpY_remove
      dsimp only
      exact yw_circ hc (br_f (by decide) (br_c (fun _ => ⟨rfl, J⟩) (fun _ => br_t (re_lt67.mpr h) ⟨rfl, J⟩)))
    · have hP := hX.1 c hc
      have hin : vp_in (nI (7 * c + d)) 14 := vp_in_nI (by omega) (by decide)
      refine xw_has hX hc hd (fun hb => br_f (by decide) ⟨vp_in_nI hc (by decide), vp_in_nI hc (by decide), ?_⟩) (fun hb => br_t rfl ?_)
      · rw [nI_clamp (n := c) (by omega), hP.2, ar_clr (P c) hP.1 d hd, ar_nar8 (ar_clr_lt (P c) hP.1 d hd)]
        refine nm_e ?_
        unfold wpY_remove
        dsimp only
        refine yw_circ hc (br_f (by decide) (br_f (nI_pos (by omega)) (br_f (nI_nlt (a := 6) (by omega) (by decide)) ?_)))
        rw [ar_7c, nI_clamp (n := 7 * c + d) (by omega), ar_b0]
        refine ⟨hin, yw_there hY hc hd (fun z => absurd (hb.symm.trans z) (by decide)) (fun _ => ⟨hin, nm_e ⟨rfl, ?_⟩⟩)⟩
        exact re_mk (xw_A_clr hX hc hd) hN (yw_A_clr hY hc hd hP.1)
      · unfold wpY_remove
        dsimp only
        refine yw_circ hc (br_f (by decide) (br_f (nI_pos (by omega)) (br_f (nI_nlt (a := 6) (by omega) (by decide)) ?_)))
        rw [ar_7c, nI_clamp (n := 7 * c + d) (by omega)]
        exact ⟨hin, yw_there hY hc hd (fun _ => ⟨rfl, J⟩) (fun z => absurd (hb.symm.trans z) (by decide))⟩
  · refine xw_hasN (Or.inl ⟨n0, n1⟩) (br_t rfl ?_)
    unfold wpY_remove
    dsimp only
    exact yw_circN n0 n1 (br_t rfl ⟨rfl, J⟩)
theorem i_vc_name {k : Nat} {u : SX} {v : SY} (I : i_Rel k u v) (hk : k + 4 ≤ 2048) (v1 : Int32) (v2 : Int32) (v3 : Int32) : wpX_name (fun r u' => wpY_name (fun r' v' => r' = r ∧ i_Rel (k + 4) u' v') v v1 v2 v3) u v1 v2 v3 := by
  obtain ⟨P, D, ty, gt, xs, ys, nm, h⟩ := I
  obtain ⟨f_one, f_other, f_pinnedNet, f_pinnedTo, f_found, a_present, a_types, a_gates, a_ends, a_others, a_names, a_marks, a_nextMarks, a_chosen, a_first, a_possible⟩ := u
  obtain ⟨b_there, b_types, b_gates, b_xs, b_ys, b_names, b_to⟩ := v
  obtain ⟨hX, hN, hY⟩ := h
  have J : i_Rel (k + 4) (f_one, f_other, f_pinnedNet, f_pinnedTo, f_found, a_present, a_types, a_gates, a_ends, a_others, a_names, a_marks, a_nextMarks, a_chosen, a_first, a_possible) (b_there, b_types, b_gates, b_xs, b_ys, b_names, b_to) := re_mk hX hN hY
  unfold wpX_name wpY_name
  dsimp only
  rcases ar_01 v1 with ⟨c, hc, rfl⟩ | ⟨n0, n1⟩
  · refine xw_circ hc (br_f (by decide) ?_)
    rcases pk_ix v2 (n := 6) (by decide) with h | h | ⟨i, hi, rfl⟩
    · exact xw_netN (Or.inl h) (br_t rfl (yw_circ hc (br_f (by decide) (yw_netN (Or.inl h) (br_t rfl ⟨rfl, J⟩)))))
    · exact xw_netN (Or.inr h) (br_t rfl (yw_circ hc (br_f (by decide) (yw_netN (Or.inr h) (br_t rfl ⟨rfl, J⟩)))))
    · refine xw_net hi (br_f (by decide) ?_)
      by_cases h1 : v3 < -1
      · exact br_t h1 (yw_circ hc (br_f (by decide) (yw_net hi (br_f (by decide) (br_t h1 ⟨rfl, J⟩)))))
      · refine br_f h1 ?_
        by_cases h2 : v3 ≤ 3
        · refine br_t h2 ?_
          obtain ⟨m, hm, rfl⟩ := ar_nm v3 h1 h2
          have hin : vp_in (nI (6 * c + i)) 12 := vp_in_nI (by omega) (by decide)
          rw [ar_c6, nI_clamp (n := 6 * c + i) (by omega), ar_nmb m hm, vp_nar_byte, ar_nmb m hm]
          refine ⟨hin, nm_e (yw_circ hc (br_f (by decide) (yw_net hi (br_f (by decide) (br_f h1 (br_t h2 ?_))))))⟩
          rw [ar_6c, nI_clamp (n := 6 * c + i) (by omega), ar_pm]
          refine ⟨hin, nm_e ⟨rfl, re_mk (nm := mt_pu nm (6 * c + i) m) hX (fun q hq => ?_) ⟨hY.1, hY.2.1, fun q hq => ?_⟩⟩⟩
          · by_cases e : q = 6 * c + i
            · rw [e, pk_us, mt_pu_s]
              exact ⟨hm, rfl⟩
            · rw [pk_un e, mt_pu_n e]
              exact hN q hq
          · by_cases e : q = 6 * c + i
            · rw [e, pk_us, mt_pu_s]
              exact ⟨hm, rfl⟩
            · rw [pk_un e, mt_pu_n e]
              exact hY.2.2 q hq
        · exact br_f h2 (yw_circ hc (br_f (by decide) (yw_net hi (br_f (by decide) (br_f h1 (br_f h2 ⟨rfl, J⟩))))))
  · exact xw_circN n0 n1 (br_t rfl (yw_circN n0 n1 (br_t rfl ⟨rfl, J⟩)))
theorem i_vc_devices {k : Nat} {u : SX} {v : SY} (I : i_Rel k u v) (hk : k + 4 ≤ 2048) (v1 : Int32) : wpX_devices (fun r => wpY_devices (fun r' => r' = r ∧ i_Rel (k + 4) u v) v v1) u v1 := by
  obtain ⟨P, D, ty, gt, xs, ys, nm, h⟩ := I
  obtain ⟨f_one, f_other, f_pinnedNet, f_pinnedTo, f_found, a_present, a_types, a_gates, a_ends, a_others, a_names, a_marks, a_nextMarks, a_chosen, a_first, a_possible⟩ := u
  obtain ⟨b_there, b_types, b_gates, b_xs, b_ys, b_names, b_to⟩ := v
  obtain ⟨hX, hN, hY⟩ := h
  have J : i_Rel (k + 4) (f_one, f_other, f_pinnedNet, f_pinnedTo, f_found, a_present, a_types, a_gates, a_ends, a_others, a_names, a_marks, a_nextMarks, a_chosen, a_first, a_possible) (b_there, b_types, b_gates, b_xs, b_ys, b_names, b_to) := re_mk hX hN hY
  unfold wpX_devices wpY_devices
  dsimp only
  rcases ar_01 v1 with ⟨c, hc, rfl⟩ | ⟨n0, n1⟩
  · refine xw_circ hc (br_f (by decide) ⟨vp_in_nI hc (by decide), ⟨8, yw_dev4 hY hc 7 0 0 rfl (by decide) ⟨?_, J⟩⟩⟩)
    rw [nI_clamp (n := c) (by omega), (hX.1 c hc).2]
    exact congrArg nI (ar_bits_ext (P c) (hX.1 c hc).1)
  · exact xw_circN n0 n1 (br_t rfl ⟨1, br_f (by decide) (yw_circN n0 n1 (br_t rfl ⟨rfl, J⟩))⟩)
theorem i_vc_degree {k : Nat} {u : SX} {v : SY} (I : i_Rel k u v) (hk : k + 4 ≤ 2048) (v1 : Int32) (v2 : Int32) : wpX_degree (fun r => wpY_degree (fun r' => r' = r ∧ i_Rel (k + 4) u v) v v1 v2) u v1 v2 := by
  obtain ⟨P, D, ty, gt, xs, ys, nm, h⟩ := I
  obtain ⟨f_one, f_other, f_pinnedNet, f_pinnedTo, f_found, a_present, a_types, a_gates, a_ends, a_others, a_names, a_marks, a_nextMarks, a_chosen, a_first, a_possible⟩ := u
  obtain ⟨b_there, b_types, b_gates, b_xs, b_ys, b_names, b_to⟩ := v
  obtain ⟨hX, hN, hY⟩ := h
  have J : i_Rel (k + 4) (f_one, f_other, f_pinnedNet, f_pinnedTo, f_found, a_present, a_types, a_gates, a_ends, a_others, a_names, a_marks, a_nextMarks, a_chosen, a_first, a_possible) (b_there, b_types, b_gates, b_xs, b_ys, b_names, b_to) := re_mk hX hN hY
  unfold wpX_degree wpY_degree
  dsimp only
  rcases ar_01 v1 with ⟨c, hc, rfl⟩ | ⟨n0, n1⟩
  · refine xw_circ hc (br_f (by decide) ?_)
    rcases pk_ix v2 (n := 6) (by decide) with h | h | ⟨i, hi, rfl⟩
    · exact xw_netN (Or.inl h) (br_t rfl (yw_circ hc (br_f (by decide) (yw_netN (Or.inl h) (br_t rfl ⟨rfl, J⟩)))))
    · exact xw_netN (Or.inr h) (br_t rfl (yw_circ hc (br_f (by decide) (yw_netN (Or.inr h) (br_t rfl ⟨rfl, J⟩)))))
    · refine xw_net hi (br_f (by decide) ⟨8, xw_deg21 hX hc hi 7 0 0 rfl ?_⟩)
      exact yw_circ hc (br_f (by decide) (yw_net hi (br_f (by decide) ⟨8, yw_deg23 hY hc hi 7 0 0 rfl ⟨rfl, J⟩⟩)))
  · exact xw_circN n0 n1 (br_t rfl (yw_circN n0 n1 (br_t rfl ⟨rfl, J⟩)))
end
section
/-! the methods that search -/
theorem mt_N_any (P : Nat → Nat) (D : Nat → MtDV) (nm : Nat → Nat) {c i j : Nat} (hi : i < 6) (hj : j < 6) : mt_N P D nm (xw_pin (nI i) (nI j)) c c = [] ↔ (mt_M P D nm c c).any (fun q => decide (mt_fn q i = j)) = false := by
  have hb : ∀ z : Bool, z = false ↔ ¬ z = true := by decide
  rw [hb, List.any_eq_true]
  unfold mt_N mt_M
  rw [List.filter_eq_nil_iff]
  have hp : ∀ q, q ∈ mt_ext 6 [] → ((List.range 6).all (fun l => xw_pin (nI i) (nI j) l (mt_fn q l)) = true ↔ mt_fn q i = j) := by
    intro q hq
    have hf := (mt_ext_pm hq).2.1
    rw [List.all_eq_true]
    unfold xw_pin
    constructor
    · intro h
      have h2 := of_decide_eq_true (h i (List.mem_range.mpr hi)) rfl
      have h3 := hf i hi
      exact (nI_eq (by omega) (by omega)).mp h2
    · intro h l hl
      have hl2 := List.mem_range.mp hl
      refine decide_eq_true (fun z => ?_)
      rw [nI_eq (by omega) (by omega)] at z
      rw [z, h]
  constructor
  · rintro h ⟨q, hq, hj2⟩
    obtain ⟨h1, h2⟩ := List.mem_filter.mp hq
    refine h q h1 ?_
    rw [Bool.and_eq_true]
    exact ⟨(hp q h1).mpr (of_decide_eq_true hj2), h2⟩
  · intro h q hq hz
    rw [Bool.and_eq_true] at hz
    exact h ⟨q, List.mem_filter.mpr ⟨hq, hz.2⟩, decide_eq_true ((hp q hq).mp hz.1)⟩
/-- the least good device from d on -/
def mt_sr (g : Nat → Bool) : Nat → Nat → Int32
  | 0, _ => -1
  | n + 1, d => if g d then nI d else mt_sr g n (d + 1)
def mt_gd (P : Nat → Nat) (D : Nat → MtDV) (nm : Nat → Nat) (d : Nat) : Bool := (P 0).testBit d && decide (¬ mt_M (mt_pu P 0 (P 0 &&& (127 ^^^ 2 ^ d))) D nm 0 1 = [])
section
variable {f_one f_other f_pinnedNet f_pinnedTo f_found : Int32} {a_present a_types a_gates a_ends a_others a_names a_marks a_nextMarks a_chosen a_first a_possible : Nat → Int32}
variable {b_there b_types b_gates b_xs b_ys b_names b_to : Nat → Int32}
variable {P : Nat → Nat} {D : Nat → MtDV} {ty gt xs ys nm : Nat → Nat}
theorem xw_sur2 {post : Int32 → SX → Prop} (hn : ∀ q, q < 12 → nm q < 5 ∧ a_names q = nI (nm q) + (-1)) {r : Int32} (h : ∀ (one other pn fo : Int32) (pr mk nx ch fi pp : Nat → Int32), xw_A P D pr a_types a_gates a_ends a_others → post r (one, other, pn, f_pinnedTo, fo, pr, a_types, a_gates, a_ends, a_others, a_names, mk, nx, ch, fi, pp)) : ∀ (n d : Nat) (one other pn fo : Int32) (pr mk nx ch fi pp : Nat → Int32), d + n = 7 → mt_sr (mt_gd P D nm) n d = r → xw_A P D pr a_types a_gates a_ends a_others → wX_surplus_2 post (n + 1) (nI d) one other pn f_pinnedTo fo pr a_types a_gates a_ends a_others a_names mk nx ch fi pp := by
  intro n
  induction n with
  | zero =>
    intro d one other pn fo pr mk nx ch fi pp hd hr hA
    refine br_t (nI_le (a := 7) (by omega) (by omega)) ?_
    have e : r = -1 := hr.symm
    have h2 := h one other pn fo pr mk nx ch fi pp hA
    rw [e] at h2
    exact h2
  | succ n ih =>
    intro d one other pn fo pr mk nx ch fi pp hd hr hA
    have hd7 : d < 7 := by omega
    have hP := hA.1 0 (by decide)
    unfold mt_sr at hr
    refine br_f (nI_ge (b := 7) (by omega) (by decide)) (xw_has (c := 0) hA (by decide) hd7 (fun hb => br_f (by decide) ?_) (fun hb => br_t rfl (nm_r (nI_1 d) ?_)))
    · have hg : mt_gd P D nm d = decide (¬ mt_M (mt_pu P 0 (P 0 &&& (127 ^^^ 2 ^ d))) D nm 0 1 = []) := by
        unfold mt_gd
        rw [hb, Bool.true_and]
      rw [hg] at hr
      refine nm_r hP.2 ?_
      rw [ar_clr (P 0) hP.1 d hd7, ar_nar8 (ar_clr_lt (P 0) hP.1 d hd7)]
      refine nm_e ?_
      refine xw_match (nm := nm) (xw_A_clr hA (by decide) hd7) hn (fun mk2 nx2 ch2 fi2 pp2 _ => ?_)
      have hA2 : xw_A P D (upd (upd pr 0 (nI (P 0 &&& (127 ^^^ 2 ^ d)))) 0 (nI (P 0))) a_types a_gates a_ends a_others := by
        refine ⟨fun c hc => ?_, hA.2⟩
        by_cases e : c = 0
        · rw [e, pk_us]
          exact ⟨hP.1, rfl⟩
        · rw [pk_un e, pk_un e]
          exact hA.1 c hc
      refine nm_r (e' := upd (upd pr 0 (nI (P 0 &&& (127 ^^^ 2 ^ d)))) 0 (nI (P 0))) (by rw [ar_nar hP.1]) ?_
      by_cases e : mt_M (mt_pu P 0 (P 0 &&& (127 ^^^ 2 ^ d))) D nm 0 1 = []
      · rw [decide_eq_false (fun z => z e)] at hr
        refine br_t (if_pos e) (nm_r (nI_1 d) ?_)
        exact ih (d + 1) _ _ _ _ _ _ _ _ _ _ (by omega) hr hA2
      · rw [decide_eq_true e] at hr
        refine br_f (by rw [if_neg e]; decide) ?_
        have e2 : r = nI d := hr.symm
        have h2 := h (nI 0) (nI 1) (-1) (nI (mt_M (mt_pu P 0 (P 0 &&& (127 ^^^ 2 ^ d))) D nm 0 1).length) _ mk2 nx2 ch2 fi2 pp2 hA2
        rw [e2] at h2
        exact h2
    · have hg : mt_gd P D nm d = false := by
        unfold mt_gd
        rw [hb, Bool.false_and]
      rw [hg] at hr
      exact ih (d + 1) _ _ _ _ _ _ _ _ _ _ (by omega) hr hA
theorem yw_sur37 {post : Int32 → SY → Prop} {J : Int32 → Int32 → (Nat → Int32) → (Nat → Int32) → (Nat → Int32) → (Nat → Int32) → (Nat → Int32) → (Nat → Int32) → (Nat → Int32) → Prop} {d : Nat} {z0 : Int32} (hd : d < 7) (h : J z0 (nI d + (-1)) (upd b_there d 1) b_types b_gates b_xs b_ys b_names b_to) : wY_surplus_37 post J (nI d) z0 b_there b_types b_gates b_xs b_ys b_names b_to := by
  unfold wY_surplus_37
  rw [nI_clamp (n := d) (by omega), ar_b1]
  exact ⟨vp_in_nI (by omega) (by decide), nm_e (nm_e h)⟩
theorem yw_sur5 {post : Int32 → SY → Prop} (hp : P 0 < 128) (h : ∀ th to : Nat → Int32, yw_A P D ty gt xs ys nm th b_types b_gates b_xs b_ys b_names → post (mt_sr (mt_gd P D nm) 7 0) (th, b_types, b_gates, b_xs, b_ys, b_names, to)) : ∀ (e : Nat) (th to : Nat → Int32), e ≤ 7 → yw_A P D ty gt xs ys nm th b_types b_gates b_xs b_ys b_names → wY_surplus_5 post (e + 1) (mt_sr (mt_gd P D nm) (7 - e) e) (nI e + (-1)) th b_types b_gates b_xs b_ys b_names to := by
  intro e
  induction e with
  | zero =>
    intro th to _ hA
    exact br_t (by decide) (h th to hA)
  | succ d ih =>
    intro th to he hA
    have hd : d < 7 := by omega
    have e7 : mt_sr (mt_gd P D nm) (7 - d) d = if mt_gd P D nm d then nI d else mt_sr (mt_gd P D nm) (7 - (d + 1)) (d + 1) := by
      rw [show 7 - d = (7 - (d + 1)) + 1 from by omega]
      rfl
    have hin : vp_in (nI d) 14 := vp_in_nI (by omega) (by decide)
    have h0 : th d = if (P 0).testBit d then 1 else 0 := by
      have h1 := hA.1 0 (by decide) d hd
      rw [Nat.mul_zero, Nat.zero_add] at h1
      exact h1
    have hAc : yw_A (mt_pu P 0 (P 0 &&& (127 ^^^ 2 ^ d))) D ty gt xs ys nm (upd th d 0) b_types b_gates b_xs b_ys b_names := by
      have h1 := yw_A_clr hA (c := 0) (i := d) (by decide) hd hp
      rw [Nat.mul_zero, Nat.zero_add] at h1
      exact h1
    rw [pk_m1]
    refine br_f (nI_pos (by omega)) ⟨hin, ?_⟩
    rw [nI_clamp (n := d) (by omega), ar_b0]
    cases hb : (P 0).testBit d
    · have hg : mt_gd P D nm d = false := by
        unfold mt_gd
        rw [hb, Bool.false_and]
      rw [hg] at e7
      rw [hb] at h0
      refine br_t h0 (nm_e ?_)
      have h2 := ih th to (by omega) hA
      rw [e7] at h2
      exact h2
    · have hg : mt_gd P D nm d = decide (¬ mt_M (mt_pu P 0 (P 0 &&& (127 ^^^ 2 ^ d))) D nm 0 1 = []) := by
        unfold mt_gd
        rw [hb, Bool.true_and]
      rw [hg] at e7
      rw [hb] at h0
      have hA2 : yw_A P D ty gt xs ys nm (upd (upd th d 0) d 1) b_types b_gates b_xs b_ys b_names := by
        refine ⟨fun c hc x hx => ?_, hA.2⟩
        by_cases e : 7 * c + x = d
        · have hc0 : c = 0 := by omega
          have hx0 : x = d := by omega
          subst hc0 hx0
          rw [Nat.mul_zero, Nat.zero_add, pk_us, hb]
          rfl
        · rw [pk_un e, pk_un e]
          exact hA.1 c hc x hx
      refine br_f (by rw [h0]; decide) ⟨hin, nm_e ?_⟩
      refine yw_first hAc (fun e0 to' => br_t ar_m1lt (yw_sur37 hd ?_)) (fun q T c' to' e0 hc' _ => br_f (nI_pos (by omega)) (yw_sur37 hd ?_))
      · rw [decide_eq_false (fun z => z e0)] at e7
        have h2 := ih (upd (upd th d 0) d 1) to' (by omega) hA2
        rw [e7] at h2
        exact h2
      · have hne : ¬ mt_M (mt_pu P 0 (P 0 &&& (127 ^^^ 2 ^ d))) D nm 0 1 = [] := fun z => absurd (z.symm.trans e0) (List.cons_ne_nil q T).symm
        rw [decide_eq_true hne] at e7
        have h2 := ih (upd (upd th d 0) d 1) to' (by omega) hA2
        rw [e7] at h2
        exact h2
end
theorem i_vc_match {k : Nat} {u : SX} {v : SY} (I : i_Rel k u v) (hk : k + 4 ≤ 2048) : wpX_match (fun r u' => wpY_match (fun r' v' => r' = r ∧ i_Rel (k + 4) u' v') v) u := by
  obtain ⟨P, D, ty, gt, xs, ys, nm, h⟩ := I
  obtain ⟨f_one, f_other, f_pinnedNet, f_pinnedTo, f_found, a_present, a_types, a_gates, a_ends, a_others, a_names, a_marks, a_nextMarks, a_chosen, a_first, a_possible⟩ := u
  obtain ⟨b_there, b_types, b_gates, b_xs, b_ys, b_names, b_to⟩ := v
  obtain ⟨hX, hN, hY⟩ := h
  exact xw_match hX hN (fun mk nx ch fi pp _ => yw_match hY (fun to => ⟨rfl, re_mk hX hN hY⟩))
theorem i_vc_assigned {k : Nat} {u : SX} {v : SY} (I : i_Rel k u v) (hk : k + 4 ≤ 2048) (v1 : Int32) : wpX_assigned (fun r u' => wpY_assigned (fun r' v' => r' = r ∧ i_Rel (k + 4) u' v') v v1) u v1 := by
  obtain ⟨P, D, ty, gt, xs, ys, nm, h⟩ := I
  obtain ⟨f_one, f_other, f_pinnedNet, f_pinnedTo, f_found, a_present, a_types, a_gates, a_ends, a_others, a_names, a_marks, a_nextMarks, a_chosen, a_first, a_possible⟩ := u
  obtain ⟨b_there, b_types, b_gates, b_xs, b_ys, b_names, b_to⟩ := v
  obtain ⟨hX, hN, hY⟩ := h
  unfold wpX_assigned wpY_assigned
  dsimp only
  rcases pk_ix v1 (n := 6) (by decide) with h | h | ⟨i, hi, rfl⟩
  · exact xw_netN (Or.inl h) (br_t rfl (yw_netN (Or.inl h) (br_t rfl ⟨rfl, re_mk hX hN hY⟩)))
  · exact xw_netN (Or.inr h) (br_t rfl (yw_netN (Or.inr h) (br_t rfl ⟨rfl, re_mk hX hN hY⟩)))
  · refine xw_net hi (br_f (by decide) (xw_match hX hN (fun mk nx ch fi pp hnt => ?_)))
    by_cases e : mt_M P D nm 0 1 = []
    · refine br_t (if_pos e) (yw_net hi (br_f (by decide) (yw_first hY (fun _ to => br_t ar_m1lt ⟨rfl, re_mk hX hN hY⟩) (fun q T c' to e2 _ _ => absurd (e.symm.trans e2) (List.cons_ne_nil q T).symm))))
    · refine br_f (by rw [if_neg e]; decide) ⟨vp_in_nI hi (by decide), ?_⟩
      refine yw_net hi (br_f (by decide) (yw_first hY (fun e2 to => absurd e2 e) (fun q T c' to e2 hc hto => br_f (nI_pos (by omega)) ⟨vp_in_nI hi (by decide), ?_, re_mk hX hN hY⟩)))
      rw [nI_clamp (n := i) (by omega)]
      exact (hto i hi).trans (hnt.2.1 i hi q T e2).symm
theorem i_vc_matches {k : Nat} {u : SX} {v : SY} (I : i_Rel k u v) (hk : k + 4 ≤ 2048) : wpX_matches (fun r u' => wpY_matches (fun r' v' => r' = r ∧ i_Rel (k + 4) u' v') v) u := by
  obtain ⟨P, D, ty, gt, xs, ys, nm, h⟩ := I
  obtain ⟨f_one, f_other, f_pinnedNet, f_pinnedTo, f_found, a_present, a_types, a_gates, a_ends, a_others, a_names, a_marks, a_nextMarks, a_chosen, a_first, a_possible⟩ := u
  obtain ⟨b_there, b_types, b_gates, b_xs, b_ys, b_names, b_to⟩ := v
  obtain ⟨hX, hN, hY⟩ := h
  unfold wpX_matches
  dsimp only
  exact xw_cm (a := 0) (b := 1) hX (by decide) (by decide) hN (fun mk nx ch fi pp _ => yw_matches hY (fun to => ⟨rfl, re_mk hX hN hY⟩))
theorem i_vc_candidates {k : Nat} {u : SX} {v : SY} (I : i_Rel k u v) (hk : k + 4 ≤ 2048) (v1 : Int32) : wpX_candidates (fun r u' => wpY_candidates (fun r' v' => r' = r ∧ i_Rel (k + 4) u' v') v v1) u v1 := by
  obtain ⟨P, D, ty, gt, xs, ys, nm, h⟩ := I
  obtain ⟨f_one, f_other, f_pinnedNet, f_pinnedTo, f_found, a_present, a_types, a_gates, a_ends, a_others, a_names, a_marks, a_nextMarks, a_chosen, a_first, a_possible⟩ := u
  obtain ⟨b_there, b_types, b_gates, b_xs, b_ys, b_names, b_to⟩ := v
  obtain ⟨hX, hN, hY⟩ := h
  unfold wpX_candidates
  dsimp only
  have B : re_bad v1 → wpY_candidates (fun r' v' => r' = 0 ∧ i_Rel (k + 4) (f_one, f_other, f_pinnedNet, f_pinnedTo, f_found, a_present, a_types, a_gates, a_ends, a_others, a_names, a_marks, a_nextMarks, a_chosen, a_first, a_possible) v') (b_there, b_types, b_gates, b_xs, b_ys, b_names, b_to) v1 := fun hb => ⟨1, br_f (by decide) (yw_netN hb (br_t rfl ⟨rfl, re_mk hX hN hY⟩))⟩
  rcases pk_ix v1 (n := 6) (by decide) with h | h | ⟨i, hi, rfl⟩
  · exact xw_netN (Or.inl h) (br_t rfl (B (Or.inl h)))
  · exact xw_netN (Or.inr h) (br_t rfl (B (Or.inr h)))
  · refine xw_net hi (br_f (by decide) (xw_cm (a := 0) (b := 1) hX (by decide) (by decide) hN (fun mk nx ch fi pp hnt => ⟨vp_in_nI hi (by decide), ?_⟩)))
    refine yw_candidates hY hi (fun to => ⟨?_, re_mk hX hN hY⟩)
    rw [nI_clamp (n := i) (by omega)]
    exact (hnt.2.2 i hi).2.symm
theorem i_vc_symmetries {k : Nat} {u : SX} {v : SY} (I : i_Rel k u v) (hk : k + 4 ≤ 2048) (v1 : Int32) : wpX_symmetries (fun r u' => wpY_symmetries (fun r' v' => r' = r ∧ i_Rel (k + 4) u' v') v v1) u v1 := by
  obtain ⟨P, D, ty, gt, xs, ys, nm, h⟩ := I
  obtain ⟨f_one, f_other, f_pinnedNet, f_pinnedTo, f_found, a_present, a_types, a_gates, a_ends, a_others, a_names, a_marks, a_nextMarks, a_chosen, a_first, a_possible⟩ := u
  obtain ⟨b_there, b_types, b_gates, b_xs, b_ys, b_names, b_to⟩ := v
  obtain ⟨hX, hN, hY⟩ := h
  unfold wpX_symmetries
  dsimp only
  rcases ar_01 v1 with ⟨c, hc, rfl⟩ | ⟨n0, n1⟩
  · exact xw_circ hc (br_f (by decide) (xw_cm hX hc hc hN (fun mk nx ch fi pp _ => yw_symmetries hY hc (fun to => ⟨rfl, re_mk hX hN hY⟩))))
  · refine xw_circN n0 n1 (br_t rfl ⟨1, br_f (by decide) (yw_circN n0 n1 (br_t rfl ?_))⟩)
    unfold wY_symmetries_47
    exact yw_circN n0 n1 (br_t rfl ⟨rfl, re_mk hX hN hY⟩)
theorem i_vc_exchangeable {k : Nat} {u : SX} {v : SY} (I : i_Rel k u v) (hk : k + 4 ≤ 2048) (v1 : Int32) (v2 : Int32) (v3 : Int32) : wpX_exchangeable (fun r u' => wpY_exchangeable (fun r' v' => r' = r ∧ i_Rel (k + 4) u' v') v v1 v2 v3) u v1 v2 v3 := by
  obtain ⟨P, D, ty, gt, xs, ys, nm, h⟩ := I
  obtain ⟨f_one, f_other, f_pinnedNet, f_pinnedTo, f_found, a_present, a_types, a_gates, a_ends, a_others, a_names, a_marks, a_nextMarks, a_chosen, a_first, a_possible⟩ := u
  obtain ⟨b_there, b_types, b_gates, b_xs, b_ys, b_names, b_to⟩ := v
  obtain ⟨hX, hN, hY⟩ := h
  have J : i_Rel (k + 4) (f_one, f_other, f_pinnedNet, f_pinnedTo, f_found, a_present, a_types, a_gates, a_ends, a_others, a_names, a_marks, a_nextMarks, a_chosen, a_first, a_possible) (b_there, b_types, b_gates, b_xs, b_ys, b_names, b_to) := re_mk hX hN hY
  unfold wpX_exchangeable
  dsimp only
  rcases ar_01 v1 with ⟨c, hc, rfl⟩ | ⟨n0, n1⟩
  · refine xw_circ hc (br_f (by decide) ?_)
    have B2 : re_bad v2 → wpY_exchangeable (fun r' v' => r' = 0 ∧ i_Rel (k + 4) (f_one, f_other, f_pinnedNet, f_pinnedTo, f_found, a_present, a_types, a_gates, a_ends, a_others, a_names, a_marks, a_nextMarks, a_chosen, a_first, a_possible) v') (b_there, b_types, b_gates, b_xs, b_ys, b_names, b_to) (nI c) v2 v3 := fun hb => ⟨1, br_f (by decide) (yw_circ hc (br_f (by decide) (yw_netN hb (br_t rfl ⟨narrow_b0, rfl, J⟩))))⟩
    rcases pk_ix v2 (n := 6) (by decide) with h | h | ⟨i, hi, rfl⟩
    · exact xw_netN (Or.inl h) (br_t rfl (B2 (Or.inl h)))
    · exact xw_netN (Or.inr h) (br_t rfl (B2 (Or.inr h)))
    · refine xw_net hi (br_f (by decide) ?_)
      have B3 : re_bad v3 → wpY_exchangeable (fun r' v' => r' = 0 ∧ i_Rel (k + 4) (f_one, f_other, f_pinnedNet, f_pinnedTo, f_found, a_present, a_types, a_gates, a_ends, a_others, a_names, a_marks, a_nextMarks, a_chosen, a_first, a_possible) v') (b_there, b_types, b_gates, b_xs, b_ys, b_names, b_to) (nI c) (nI i) v3 := fun hb => ⟨1, br_f (by decide) (yw_circ hc (br_f (by decide) (yw_net hi (br_f (by decide) (yw_netN hb (br_t rfl ⟨narrow_b0, rfl, J⟩))))))⟩
      rcases pk_ix v3 (n := 6) (by decide) with h | h | ⟨j, hj, rfl⟩
      · exact xw_netN (Or.inl h) (br_t rfl (B3 (Or.inl h)))
      · exact xw_netN (Or.inr h) (br_t rfl (B3 (Or.inr h)))
      · refine xw_net hj (br_f (by decide) (xw_search hX hc hc hN (fun fo mk nx ch fi pp hnt => ?_)))
        have hlen := mt_N_len P D nm (xw_pin (nI i) (nI j)) c c
        have hiff := mt_N_any P D nm (c := c) hi hj
        have hfo := hnt.1
        subst hfo
        refine pk_le (mt_N P D nm (xw_pin (nI i) (nI j)) c c).length 0 (fun e => ?_) (fun e => ?_)
        · refine yw_exchangeable hY hc hi hj (fun to => ⟨?_, re_mk hX hN hY⟩)
          rw [hiff.mp (List.eq_nil_of_length_eq_zero (by omega))]
          rfl
        · refine yw_exchangeable hY hc hi hj (fun to => ⟨?_, re_mk hX hN hY⟩)
          cases z : (mt_M P D nm c c).any (fun q => decide (mt_fn q i = j))
          · rw [hiff.mpr z] at e
            exact absurd e (by decide)
          · rfl
  · exact xw_circN n0 n1 (br_t rfl ⟨1, br_f (by decide) (yw_circN n0 n1 (br_t rfl ⟨narrow_b0, rfl, J⟩))⟩)
theorem i_vc_surplus {k : Nat} {u : SX} {v : SY} (I : i_Rel k u v) (hk : k + 4 ≤ 2048) : wpX_surplus (fun r u' => wpY_surplus (fun r' v' => r' = r ∧ i_Rel (k + 4) u' v') v) u := by
  obtain ⟨P, D, ty, gt, xs, ys, nm, h⟩ := I
  obtain ⟨f_one, f_other, f_pinnedNet, f_pinnedTo, f_found, a_present, a_types, a_gates, a_ends, a_others, a_names, a_marks, a_nextMarks, a_chosen, a_first, a_possible⟩ := u
  obtain ⟨b_there, b_types, b_gates, b_xs, b_ys, b_names, b_to⟩ := v
  obtain ⟨hX, hN, hY⟩ := h
  refine ⟨8, xw_sur2 hN (fun one other pn fo pr mk nx ch fi pp hX2 => ?_) 7 0 f_one f_other f_pinnedNet f_found a_present a_marks a_nextMarks a_chosen a_first a_possible rfl rfl hX⟩
  exact ⟨8, yw_sur5 (hX.1 0 (by decide)).1 (fun th to hY2 => ⟨rfl, re_mk hX2 hN hY2⟩) 7 b_there b_to (Nat.le_refl 7) hY⟩
end
