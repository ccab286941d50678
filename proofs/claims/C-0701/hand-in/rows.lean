section
/-! rows of kit/rows (starting texts), pasted by mk01.py -/
theorem pk_us {f : Nat → Int32} {k : Nat} {x : Int32} : upd f k x k = x := if_pos rfl
theorem pk_un {f : Nat → Int32} {k j : Nat} {x : Int32} (h : j ≠ k) : upd f k x j = f j := if_neg h
theorem pk_sub {a b : Nat} (h : b ≤ a) : nI a - nI b = nI (a - b) := by
  obtain ⟨c, rfl⟩ : ∃ c, a = c + b := ⟨a - b, by omega⟩
  rw [← nI_add, Int32.add_sub_cancel, Nat.add_sub_cancel]
theorem pk_m1 (n : Nat) : nI (n + 1) + (-1) = nI n := by
  rw [← nI_1, Int32.add_assoc, show (1 : Int32) + (-1) = 0 from rfl, Int32.add_zero]
theorem pk_mul (a b : Nat) : nI a * nI b = nI (a * b) := (Int32.ofNat_mul a b).symm
theorem pk_ix (x : Int32) {n : Nat} (hn : n < 2 ^ 31) : x < 0 ∨ nI n ≤ x ∨ ∃ j : Nat, j < n ∧ x = nI j := by
  by_cases h : x < 0
  · exact Or.inl h
  · obtain ⟨j, hj, rfl⟩ := nI_of h
    by_cases h2 : j < n
    · exact Or.inr (Or.inr ⟨j, h2, rfl⟩)
    · exact Or.inr (Or.inl (nI_le (by omega) hj))
theorem pk_le {x y : Int32} {A B : Prop} (a b : Nat) (f : a ≤ b → A) (g : b < a → B) (hx : x = nI a := by rfl) (hy : y = nI b := by rfl) (ha : a < 2 ^ 31 := by omega) (hb : b < 2 ^ 31 := by omega) : (x ≤ y → A) ∧ (¬ x ≤ y → B) := by
  subst hx hy
  rw [nI_leI ha hb]
  exact ⟨f, fun z => g (by omega)⟩
theorem pk_lt {x y : Int32} {A B : Prop} (a b : Nat) (f : a < b → A) (g : b ≤ a → B) (hx : x = nI a := by rfl) (hy : y = nI b := by rfl) (ha : a < 2 ^ 31 := by omega) (hb : b < 2 ^ 31 := by omega) : (x < y → A) ∧ (¬ x < y → B) := by
  subst hx hy
  rw [nI_ltI ha hb]
  exact ⟨f, fun z => g (by omega)⟩
theorem pk_eq {x y : Int32} {A B : Prop} (a b : Nat) (f : a = b → A) (g : a ≠ b → B) (hx : x = nI a := by rfl) (hy : y = nI b := by rfl) (ha : a < 2 ^ 31 := by omega) (hb : b < 2 ^ 31 := by omega) : (x = y → A) ∧ (¬ x = y → B) := by
  subst hx hy
  rw [nI_eq ha hb]
  exact ⟨f, g⟩
theorem pk_in {x : Int32} (n N : Nat) (h : n < N) (hx : x = nI n := by rfl) (hN : N < 2 ^ 31 := by omega) : vp_in x N := by
  subst hx
  exact vp_in_nI h hN
theorem pk_cl {x : Int32} (n : Nat) (hx : x = nI n := by rfl) (h : n < 2 ^ 31 := by omega) : x.toNatClampNeg = n := by
  subst hx
  exact nI_clamp h
theorem pk_tn {n : Nat} (h : n < 2 ^ 32) : (nI n).toBitVec.toNat = n := Nat.mod_eq_of_lt h
theorem pk_and (x : Int32) {m : Int32} (k : Nat) (hm : m.toBitVec.toNat = 2 ^ k - 1) : x &&& m = nI (x.toBitVec.toNat % 2 ^ k) := by
  apply Int32.toBitVec_inj.mp
  apply BitVec.eq_of_toNat_eq
  rw [Int32.toBitVec_and, BitVec.toNat_and, hm, Nat.and_two_pow_sub_one_eq_mod]
  show _ = (BitVec.ofNat 32 _).toNat
  rw [BitVec.toNat_ofNat]
  exact (Nat.mod_eq_of_lt (Nat.lt_of_le_of_lt (Nat.mod_le _ _) x.toBitVec.isLt)).symm
theorem pk_andN {n : Nat} (h : n < 2 ^ 32) {m : Int32} (k : Nat) (hm : m.toBitVec.toNat = 2 ^ k - 1) : nI n &&& m = nI (n % 2 ^ k) := by
  rw [pk_and _ k hm, pk_tn h]
theorem pk_shl (a s : Int32) (k : Nat) (hs : (s.toBitVec.smod 32).toNat = k) : (a <<< s).toBitVec.toNat = a.toBitVec.toNat * 2 ^ k % 2 ^ 32 := by
  show (a.toBitVec <<< (s.toBitVec.smod 32).toNat).toNat = _
  rw [hs, BitVec.toNat_shiftLeft, Nat.shiftLeft_eq]
theorem pk_shlN {n : Nat} (s : Int32) (k : Nat) (hs : (s.toBitVec.smod 32).toNat = k) (h : n * 2 ^ k < 2 ^ 32) : nI n <<< s = nI (n * 2 ^ k) := by
  apply Int32.toBitVec_inj.mp
  apply BitVec.eq_of_toNat_eq
  have hn : n < 2 ^ 32 := Nat.lt_of_le_of_lt (Nat.le_mul_of_pos_right n (Nat.two_pow_pos k)) h
  rw [pk_shl _ _ k hs, pk_tn hn, pk_tn h, Nat.mod_eq_of_lt h]
theorem pk_shr (a s : Int32) (k : Nat) (hs : (s.toBitVec.smod 32).toNat = k) : (a >>> s).toInt = a.toInt >>> k := by
  show (a.toBitVec.sshiftRight (s.toBitVec.smod 32).toNat).toInt = _
  rw [hs, BitVec.toInt_sshiftRight]
  rfl
theorem pk_shrN {n : Nat} (h : n < 2 ^ 31) (s : Int32) (k : Nat) (hs : (s.toBitVec.smod 32).toNat = k) : nI n >>> s = nI (n / 2 ^ k) := by
  apply Int32.toInt_inj.mp
  have h2 : n / 2 ^ k ≤ n := Nat.div_le_self _ _
  rw [pk_shr _ _ k hs, nI_toInt h, nI_toInt (by omega), Int.shiftRight_eq_div_pow]
  rfl
theorem pk_vb (z : Int32) : vp_nar .byte z.toInt8.toInt32 = z.toInt8.toInt32 := by rw [vp_nar_byte]; simp
theorem pk_vs (z : Int32) : vp_nar .short z.toInt16.toInt32 = z.toInt16.toInt32 := by rw [vp_nar_short]; simp
def bt (x : Int32) (i : Nat) : Bool := x.toBitVec.getLsbD i
theorem b_ext {x y : Int32} (h : ∀ i, i < 32 → bt x i = bt y i) : x = y := Int32.toBitVec_inj.mp (BitVec.eq_of_getLsbD_eq (fun i hi => h i hi))
theorem b_or (x y : Int32) (i : Nat) : bt (x ||| y) i = (bt x i || bt y i) := by unfold bt; rw [Int32.toBitVec_or, BitVec.getLsbD_or]
theorem b_and (x y : Int32) (i : Nat) : bt (x &&& y) i = (bt x i && bt y i) := by unfold bt; rw [Int32.toBitVec_and, BitVec.getLsbD_and]
theorem b_xor (x y : Int32) (i : Nat) : bt (x ^^^ y) i = (bt x i ^^ bt y i) := by unfold bt; rw [Int32.toBitVec_xor, BitVec.getLsbD_xor]
theorem b_big {x : Int32} {i : Nat} (h : 32 ≤ i) : bt x i = false := BitVec.getLsbD_of_ge _ _ h
theorem b_255 (i : Nat) : bt 255 i = decide (i < 8) := by
  rcases Nat.lt_or_ge i 32 with h | h
  · exact (by decide +kernel : ∀ i, i < 32 → bt 255 i = decide (i < 8)) i h
  · rw [b_big h, decide_eq_false (by omega)]
theorem b_m1 : ∀ i, i < 32 → bt (-1) i = true := by decide +kernel
theorem b_0 (i : Nat) : bt 0 i = false := BitVec.getLsbD_zero
theorem s_l : ∀ n, n < 32 → ((nI n &&& 31).toBitVec.smod 32).toNat = n := by decide +kernel
theorem nx_and (a b : Nat) : nI a &&& nI b = nI (a &&& b) := by
  apply Int32.toBitVec_inj.1
  show BitVec.ofNat 32 a &&& BitVec.ofNat 32 b = BitVec.ofNat 32 (a &&& b)
  apply BitVec.eq_of_getLsbD_eq
  intro i hi
  simp [hi]
theorem nx_xor (a b : Nat) : nI a ^^^ nI b = nI (a ^^^ b) := by
  apply Int32.toBitVec_inj.1
  show BitVec.ofNat 32 a ^^^ BitVec.ofNat 32 b = BitVec.ofNat 32 (a ^^^ b)
  apply BitVec.eq_of_getLsbD_eq
  intro i hi
  simp [hi]
end
section
/-! sets of items and of bids: numbers below 256, by their bits -/
def qa_sd (x y : Nat) : Nat := x &&& (255 ^^^ y)
def qa_sub (x y : Nat) : Prop := ∀ i, x.testBit i = true → y.testBit i = true
def qa_dis (x y : Nat) : Prop := ∀ i, x.testBit i = true → y.testBit i = false
theorem qa_nt {x : Bool} (h : ¬ x = true) : x = false := by cases x <;> first | rfl | exact absurd rfl h
theorem qa_nf {x : Bool} (h : ¬ x = false) : x = true := by cases x <;> first | rfl | exact absurd rfl h
theorem qa_tf {x : Bool} {P : Prop} (h : x = true) (h' : x = false) : P := by rw [h] at h'; exact absurd h' (by decide)
theorem qa_dissym {x y : Nat} (h : qa_dis x y) : qa_dis y x := fun i hi => qa_nt (fun z => qa_tf hi (h i z))
theorem qa_b8 {x i : Nat} (hx : x < 256) (h : x.testBit i = true) : i < 8 := by
  rcases Nat.lt_or_ge i 8 with z | z
  · exact z
  · have h2 : 2 ^ 8 ≤ 2 ^ i := Nat.pow_le_pow_right (by decide) z
    have h3 : x < 2 ^ i := Nat.lt_of_lt_of_le hx h2
    exact qa_tf h (Nat.testBit_lt_two_pow h3)
theorem qa_255 (i : Nat) : (255 : Nat).testBit i = decide (i < 8) := Nat.testBit_two_pow_sub_one 8 i
theorem qa_sdB {x : Nat} (hx : x < 256) (y i : Nat) : (qa_sd x y).testBit i = (x.testBit i && !y.testBit i) := by
  unfold qa_sd
  rw [Nat.testBit_and, Nat.testBit_xor, qa_255]
  cases hb : x.testBit i with
  | false => rfl
  | true => rw [decide_eq_true (qa_b8 hx hb)]; cases y.testBit i <;> rfl
theorem qa_sdT {x : Nat} (hx : x < 256) {y i : Nat} : (qa_sd x y).testBit i = true ↔ x.testBit i = true ∧ y.testBit i = false := by
  rw [qa_sdB hx]
  cases x.testBit i <;> cases y.testBit i <;> decide
theorem qa_sdlt {x y : Nat} (hx : x < 256) : qa_sd x y < 256 := Nat.lt_of_le_of_lt Nat.and_le_left hx
theorem qa_orlt {x y : Nat} (hx : x < 256) (hy : y < 256) : x ||| y < 256 := Nat.or_lt_two_pow (n := 8) hx hy
theorem qa_powlt {b : Nat} (hb : b < 8) : 2 ^ b < 256 := Nat.pow_lt_pow_right (n := 8) (by decide) hb
theorem qa_powT {b i : Nat} : (2 ^ b).testBit i = true ↔ b = i := by rw [Nat.testBit_two_pow]; exact decide_eq_true_iff
theorem qa_powF {b i : Nat} : (2 ^ b).testBit i = false ↔ b ≠ i := by rw [Nat.testBit_two_pow]; exact decide_eq_false_iff_not
theorem qa_orT {x y i : Nat} : (x ||| y).testBit i = true ↔ x.testBit i = true ∨ y.testBit i = true := by
  rw [Nat.testBit_or]; exact Bool.or_eq_true_iff
theorem qa_andT {x y i : Nat} : (x &&& y).testBit i = true ↔ x.testBit i = true ∧ y.testBit i = true := by
  rw [Nat.testBit_and]; exact Bool.and_eq_true_iff
theorem qa_ext {x y : Nat} (h : ∀ i, x.testBit i = true ↔ y.testBit i = true) : x = y := Nat.eq_of_testBit_eq (fun i => Bool.eq_iff_iff.mpr (h i))
theorem qa_zT {i : Nat} {P : Prop} (h : (0 : Nat).testBit i = true) : P := qa_tf h (Nat.zero_testBit i)
theorem qa_pdel {S b c : Nat} (hS : S < 256) : (qa_sd S (2 ^ b)).testBit c = true ↔ S.testBit c = true ∧ b ≠ c := by
  rw [qa_sdT hS, qa_powF]
def qa_mk (P : Nat → Bool) : Nat → Nat
  | 0 => 0
  | n + 1 => qa_mk P n ||| (if P n = true then 2 ^ n else 0)
theorem qa_mkT (P : Nat → Bool) (n i : Nat) : (qa_mk P n).testBit i = true ↔ i < n ∧ P i = true := by
  induction n with
  | zero => exact ⟨fun h => qa_zT h, fun h => absurd h.1 (by omega)⟩
  | succ n ih =>
    rw [qa_mk, qa_orT, ih]
    by_cases hP : P n = true
    · rw [if_pos hP, qa_powT]
      constructor
      · rintro (h | h)
        · exact ⟨by omega, h.2⟩
        · exact ⟨by omega, by rw [← h]; exact hP⟩
      · intro h
        by_cases e : n = i
        · exact Or.inr e
        · exact Or.inl ⟨by omega, h.2⟩
    · rw [if_neg hP]
      constructor
      · rintro (h | h)
        · exact ⟨by omega, h.2⟩
        · exact qa_zT h
      · intro h
        by_cases e : n = i
        · exact absurd (by rw [e]; exact h.2) hP
        · exact Or.inl ⟨by omega, h.2⟩
noncomputable def qa_cl (P : Nat → Prop) : Nat := qa_mk (fun i => @decide (P i) (Classical.propDecidable _)) 8
theorem qa_clT {P : Nat → Prop} {i : Nat} : (qa_cl P).testBit i = true ↔ i < 8 ∧ P i := by
  unfold qa_cl
  rw [qa_mkT]
  have e : ((@decide (P i) (Classical.propDecidable _)) = true) ↔ P i := @decide_eq_true_iff _ (Classical.propDecidable _)
  exact ⟨fun h => ⟨h.1, e.mp h.2⟩, fun h => ⟨h.1, e.mpr h.2⟩⟩
theorem qa_cllt (P : Nat → Prop) : qa_cl P < 256 := Nat.lt_pow_two_of_testBit (n := 8) _ (fun i hi => qa_nt (fun z => absurd (qa_clT.mp z).1 (by omega)))
/-! sums over the bids of a set -/
def qa_t (f : Nat → Nat) (S b : Nat) : Nat := if S.testBit b = true then f b else 0
def qa_sg (f : Nat → Nat) (S : Nat) : Nat → Nat
  | 0 => 0
  | d + 1 => qa_t f S (7 - d) + qa_sg f S d
def qa_sm (f : Nat → Nat) (S : Nat) : Nat := qa_sg f S 8
theorem qa_sm_eq (f : Nat → Nat) (S : Nat) : qa_sm f S = qa_t f S 0 + (qa_t f S 1 + (qa_t f S 2 + (qa_t f S 3 + (qa_t f S 4 + (qa_t f S 5 + (qa_t f S 6 + (qa_t f S 7 + 0))))))) := rfl
theorem qa_tt {f : Nat → Nat} {S b : Nat} (h : S.testBit b = true) : qa_t f S b = f b := if_pos h
theorem qa_tz {f : Nat → Nat} {S b : Nat} (h : ¬ S.testBit b = true) : qa_t f S b = 0 := if_neg h
theorem qa_sm_lin {f g k : Nat → Nat} {S T U : Nat} (h : ∀ b, qa_t f S b = qa_t g T b + qa_t k U b) : qa_sm f S = qa_sm g T + qa_sm k U := by
  rw [qa_sm_eq, qa_sm_eq, qa_sm_eq, h 0, h 1, h 2, h 3, h 4, h 5, h 6, h 7]
  omega
theorem qa_sm_or {f : Nat → Nat} {S T : Nat} (h : qa_dis S T) : qa_sm f (S ||| T) = qa_sm f S + qa_sm f T := by
  refine qa_sm_lin (fun b => ?_)
  by_cases hs : S.testBit b = true
  · rw [qa_tt hs, qa_tt (qa_orT.mpr (Or.inl hs)), qa_tz (fun z => qa_tf z (h b hs))]; rfl
  · by_cases ht : T.testBit b = true
    · rw [qa_tz hs, qa_tt ht, qa_tt (qa_orT.mpr (Or.inr ht))]; omega
    · rw [qa_tz hs, qa_tz ht, qa_tz (fun z => (qa_orT.mp z).elim hs ht)]
theorem qa_sm_pow {f : Nat → Nat} {b : Nat} (hb : b < 8) : qa_sm f (2 ^ b) = f b := by
  have ht : ∀ i, qa_t f (2 ^ b) i = if b = i then f i else 0 := fun i => by
    by_cases e : b = i
    · rw [qa_tt (qa_powT.mpr e), if_pos e]
    · rw [qa_tz (fun z => e (qa_powT.mp z)), if_neg e]
  rw [qa_sm_eq]
  simp only [ht]
  rcases (by omega : b = 0 ∨ b = 1 ∨ b = 2 ∨ b = 3 ∨ b = 4 ∨ b = 5 ∨ b = 6 ∨ b = 7) with rfl | rfl | rfl | rfl | rfl | rfl | rfl | rfl <;> simp
theorem qa_sm_0 (f : Nat → Nat) : qa_sm f 0 = 0 := by
  have ht : ∀ i, qa_t f 0 i = 0 := fun i => qa_tz (fun z => qa_zT z)
  rw [qa_sm_eq]
  simp only [ht]
theorem qa_sm_congr {f g : Nat → Nat} {S : Nat} (h : ∀ b, S.testBit b = true → f b = g b) : qa_sm f S = qa_sm g S := by
  have ht : ∀ i, qa_t f S i = qa_t g S i := fun i => by
    by_cases e : S.testBit i = true
    · rw [qa_tt e, qa_tt e, h i e]
    · rw [qa_tz e, qa_tz e]
  rw [qa_sm_eq, qa_sm_eq]
  simp only [ht]
theorem qa_sm_le {f : Nat → Nat} {S K : Nat} (h : ∀ b, f b ≤ K) : qa_sm f S ≤ 8 * K := by
  have ht : ∀ i, qa_t f S i ≤ K := fun i => by
    by_cases e : S.testBit i = true
    · rw [qa_tt e]; exact h i
    · rw [qa_tz e]; omega
  rw [qa_sm_eq]
  have h0 := ht 0
  have h1 := ht 1
  have h2 := ht 2
  have h3 := ht 3
  have h4 := ht 4
  have h5 := ht 5
  have h6 := ht 6
  have h7 := ht 7
  omega
def qa_ma (a : Nat → Nat) (b : Nat) : Nat := a b * 256 + 2 ^ (7 - b)
def qa_rv (b : Nat) : Nat := 2 ^ (7 - b)
def qa_ms (a : Nat → Nat) (S : Nat) : Nat := qa_sm (qa_ma a) S
theorem qa_ms_eq (a : Nat → Nat) (S : Nat) : qa_ms a S = qa_sm a S * 256 + qa_sm qa_rv S := by
  have h : ∀ b, qa_t (qa_ma a) S b = qa_t a S b * 256 + qa_t qa_rv S b := fun b => by
    by_cases e : S.testBit b = true
    · rw [qa_tt e, qa_tt e, qa_tt e]; rfl
    · rw [qa_tz e, qa_tz e, qa_tz e]
  unfold qa_ms
  rw [qa_sm_eq, qa_sm_eq, qa_sm_eq, h 0, h 1, h 2, h 3, h 4, h 5, h 6, h 7]
  omega
theorem qa_rv_inv : ∀ S, S < 256 → qa_sm qa_rv (qa_sm qa_rv S) = S := by decide +kernel
theorem qa_rv_lt : ∀ S, S < 256 → qa_sm qa_rv S < 256 := by decide +kernel
theorem qa_inj {a : Nat → Nat} {S T : Nat} (hS : S < 256) (hT : T < 256) (h : qa_ms a S = qa_ms a T) : S = T := by
  rw [qa_ms_eq, qa_ms_eq] at h
  have h1 := qa_rv_lt S hS
  have h2 := qa_rv_lt T hT
  have e : qa_sm qa_rv S = qa_sm qa_rv T := by omega
  rw [← qa_rv_inv S hS, e, qa_rv_inv T hT]
theorem qa_div {a : Nat → Nat} {S : Nat} (hS : S < 256) : qa_ms a S / 256 = qa_sm a S := by
  rw [qa_ms_eq]
  have h1 := qa_rv_lt S hS
  omega
theorem qa_mab {a : Nat → Nat} (ha : ∀ j, a j ≤ 50) (b : Nat) : qa_ma a b ≤ 12928 := by
  have h1 := ha b
  have h2 : 2 ^ (7 - b) ≤ 2 ^ 7 := Nat.pow_le_pow_right (by decide) (by omega)
  unfold qa_ma
  omega
theorem qa_msb {a : Nat → Nat} (ha : ∀ j, a j ≤ 50) (S : Nat) : qa_ms a S < 131072 := by
  have h := qa_sm_le (f := qa_ma a) (S := S) (K := 12928) (qa_mab ha)
  unfold qa_ms
  omega
theorem qa_smb {a : Nat → Nat} (ha : ∀ j, a j ≤ 50) (S : Nat) : qa_sm a S ≤ 400 := qa_sm_le (K := 50) ha
end
section
/-! allocations: sets of bids within a set of items; the greatest marked sum -/
def qa_Al (B w : Nat → Nat) (E S : Nat) : Prop := S < 256 ∧ ∀ b, S.testBit b = true → (0 < B b ∧ qa_sub (B b) E) ∧ ∀ c, S.testBit c = true → c ≠ b → qa_dis (B b) (B c) ∧ w b ≠ w c
def qa_Ag (B w : Nat → Nat) (R : Nat → Prop) (E S : Nat) : Prop := qa_Al B w E S ∧ ∀ b, S.testBit b = true → R b
def qa_Mx (a B w : Nat → Nat) (R : Nat → Prop) (E m : Nat) : Prop := (∃ S, qa_Ag B w R E S ∧ qa_ms a S = m) ∧ ∀ S, qa_Ag B w R E S → qa_ms a S ≤ m
def qa_Ar (a B w : Nat → Nat) (R : Nat → Prop) (E T : Nat) : Prop := qa_Ag B w R E T ∧ ∀ S, qa_Ag B w R E S → qa_ms a S ≤ qa_ms a T
section
variable {a B w : Nat → Nat} {R R' R0 : Nat → Prop} {E m m' k S T : Nat}
theorem qa_Al0 : qa_Al B w E 0 := ⟨by decide, fun b hb => qa_zT hb⟩
theorem qa_Ag0 : qa_Ag B w R E 0 := ⟨qa_Al0, fun b hb => qa_zT hb⟩
theorem qa_ms0 : qa_ms a 0 = 0 := qa_sm_0 _
theorem qa_del (a : Nat → Nat) (hE : E < 256) {b : Nat} (h : qa_Al B w E S) (hb : S.testBit b = true) : qa_Al B w (qa_sd E (B b)) (qa_sd S (2 ^ b)) ∧ qa_ms a S = qa_ma a b + qa_ms a (qa_sd S (2 ^ b)) ∧ ∀ c, (qa_sd S (2 ^ b)).testBit c = true → S.testBit c = true ∧ b ≠ c ∧ w c ≠ w b := by
  have hS := h.1
  have b8 := qa_b8 hS hb
  refine ⟨⟨qa_sdlt hS, fun c h1 => ?_⟩, ?_, fun c h1 => ?_⟩
  · have c1 := (qa_pdel hS).mp h1
    have d := h.2 c c1.1
    refine ⟨⟨d.1.1, fun i hi => ?_⟩, fun c' h' n' => d.2 c' ((qa_pdel hS).mp h').1 n'⟩
    exact (qa_sdT hE).mpr ⟨d.1.2 i hi, (d.2 b hb c1.2).1 i hi⟩
  · have e : qa_sd S (2 ^ b) ||| 2 ^ b = S := qa_ext (fun i => by
      rw [qa_orT, qa_pdel hS, qa_powT]
      constructor
      · rintro (h | h)
        · exact h.1
        · rw [← h]; exact hb
      · intro h
        by_cases e : b = i
        · exact Or.inr e
        · exact Or.inl ⟨h, e⟩)
    have q := qa_sm_or (f := qa_ma a) (S := qa_sd S (2 ^ b)) (T := 2 ^ b) (fun i hi => qa_powF.mpr ((qa_pdel hS).mp hi).2)
    rw [e, qa_sm_pow b8] at q
    show qa_sm (qa_ma a) S = _
    rw [q]
    exact Nat.add_comm _ _
  · have c1 := (qa_pdel hS).mp h1
    exact ⟨c1.1, c1.2, ((h.2 c c1.1).2 b hb c1.2).2⟩
theorem qa_ins (a : Nat → Nat) (hE : E < 256) {b : Nat} (b8 : b < 8) (h0 : 0 < B b) (hs : qa_sub (B b) E) (h : qa_Al B w (qa_sd E (B b)) S) (hw : ∀ c, S.testBit c = true → w c ≠ w b) : qa_Al B w E (S ||| 2 ^ b) ∧ qa_ms a (S ||| 2 ^ b) = qa_ma a b + qa_ms a S := by
  have nb : ∀ c, S.testBit c = true → b ≠ c := fun c hc e => hw c hc (by rw [e])
  have hc : ∀ c, (S ||| 2 ^ b).testBit c = true ↔ S.testBit c = true ∨ b = c := fun c => by rw [qa_orT, qa_powT]
  have db : ∀ c, S.testBit c = true → qa_dis (B c) (B b) := fun c hc i hi => ((qa_sdT hE).mp ((h.2 c hc).1.2 i hi)).2
  refine ⟨⟨qa_orlt h.1 (qa_powlt b8), fun c h1 => ?_⟩, ?_⟩
  · rcases (hc c).mp h1 with c1 | e
    · refine ⟨⟨(h.2 c c1).1.1, fun i hi => ((qa_sdT hE).mp ((h.2 c c1).1.2 i hi)).1⟩, fun c' h' n' => ?_⟩
      rcases (hc c').mp h' with c2 | e
      · exact (h.2 c c1).2 c' c2 n'
      · rw [← e]; exact ⟨db c c1, hw c c1⟩
    · rw [← e]
      refine ⟨⟨h0, hs⟩, fun c' h' n' => ?_⟩
      rcases (hc c').mp h' with c2 | e'
      · exact ⟨qa_dissym (db c' c2), Ne.symm (hw c' c2)⟩
      · exact absurd e'.symm n'
  · show qa_sm (qa_ma a) (S ||| 2 ^ b) = _
    rw [qa_sm_or (fun i hi => qa_powF.mpr (nb i hi)), qa_sm_pow b8]
    exact Nat.add_comm _ _
theorem qa_mx_uniq (h : qa_Mx a B w R E m) (h' : qa_Mx a B w R E m') : m = m' := by
  obtain ⟨⟨S, h1, h2⟩, h3⟩ := h
  obtain ⟨⟨T, g1, g2⟩, g3⟩ := h'
  have := g3 S h1
  have := h3 T g1
  omega
theorem qa_mx_congr (hr : ∀ c, c < 8 → (R c ↔ R' c)) (h : qa_Mx a B w R E m) : qa_Mx a B w R' E m := by
  have e : ∀ S, qa_Ag B w R E S ↔ qa_Ag B w R' E S := fun S => ⟨fun q => ⟨q.1, fun b hb => (hr b (qa_b8 q.1.1 hb)).mp (q.2 b hb)⟩, fun q => ⟨q.1, fun b hb => (hr b (qa_b8 q.1.1 hb)).mpr (q.2 b hb)⟩⟩
  obtain ⟨⟨S, h1, h2⟩, h3⟩ := h
  exact ⟨⟨S, (e S).mp h1, h2⟩, fun S q => h3 S ((e S).mpr q)⟩
theorem qa_mx_ex (h : qa_Mx a B w R E m) : ∃ T, qa_Ar a B w R E T ∧ qa_ms a T = m := by
  obtain ⟨⟨S, h1, h2⟩, h3⟩ := h
  exact ⟨S, ⟨h1, fun T q => by rw [h2]; exact h3 T q⟩, h2⟩
theorem qa_ar_mx (h : qa_Ar a B w R E T) (h' : qa_Mx a B w R E m) : m = qa_ms a T := qa_mx_uniq h' ⟨⟨T, h.1, rfl⟩, h.2⟩
theorem qa_ar_uniq (h : qa_Ar a B w R E T) (h' : qa_Ar a B w R E S) : T = S :=
  qa_inj h.1.1.1 h'.1.1.1 (Nat.le_antisymm (h'.2 T h.1) (h.2 S h'.1))
theorem qa_mxb (ha : ∀ j, a j ≤ 50) (h : qa_Mx a B w R E m) : m < 131072 := by
  obtain ⟨⟨S, h1, h2⟩, h3⟩ := h
  rw [← h2]
  exact qa_msb ha S
/-- a bid that can't be taken changes nothing -/
theorem qa_skip {j : Nat} (h1 : ∀ c, R c → R' c) (h2 : ∀ c, c ≠ j → R' c → R c) (hj : 0 < B j → qa_sub (B j) E → R' j → R j) (h : qa_Mx a B w R E m) : qa_Mx a B w R' E m := by
  have e : ∀ S, qa_Ag B w R' E S → qa_Ag B w R E S := fun S q => ⟨q.1, fun b hb => by
    by_cases z : b = j
    · have t := (q.1.2 b hb).1
      have r := q.2 b hb
      rw [z] at t r ⊢
      exact hj t.1 t.2 r
    · exact h2 b z (q.2 b hb)⟩
  obtain ⟨⟨S, g1, g2⟩, g3⟩ := h
  exact ⟨⟨S, ⟨g1.1, fun b hb => h1 b (g1.2 b hb)⟩, g2⟩, fun S q => g3 S (e S q)⟩
/-- a bid j of bidder k that may be taken: the greater of what was and of its amount with the rest -/
theorem qa_step {j : Nat} (hE : E < 256) (j8 : j < 8) (h0 : 0 < B j) (hs : qa_sub (B j) E) (hw : w j = k) (hk : ∀ c, R0 c → w c ≠ k) (hR0 : ∀ c, R0 c → R c) (hR : ∀ c, R c → w c ≠ k → R0 c) (h1 : ∀ c, R c → R' c) (h2 : ∀ c, c ≠ j → R' c → R c) (hj : R' j) (h : qa_Mx a B w R E m) (h' : qa_Mx a B w R0 (qa_sd E (B j)) m') : (qa_ma a j + m' ≤ m → qa_Mx a B w R' E m) ∧ (m < qa_ma a j + m' → qa_Mx a B w R' E (qa_ma a j + m')) := by
  obtain ⟨⟨S, g1, g2⟩, g3⟩ := h
  obtain ⟨⟨T, i1, i2⟩, i3⟩ := h'
  have up : ∀ U, qa_Ag B w R' E U → qa_ms a U ≤ m ∨ qa_ms a U ≤ qa_ma a j + m' := fun U q => by
    by_cases z : U.testBit j = true
    · obtain ⟨d1, d2, d3⟩ := qa_del a hE q.1 z
      refine Or.inr ?_
      rw [d2]
      refine Nat.add_le_add_left (i3 _ ⟨d1, fun c hc => ?_⟩) _
      have t := d3 c hc
      exact hR c (h2 c (Ne.symm t.2.1) (q.2 c t.1)) (by rw [← hw]; exact t.2.2)
    · exact Or.inl (g3 U ⟨q.1, fun b hb => h2 b (fun e => z (by rw [← e]; exact hb)) (q.2 b hb)⟩)
  obtain ⟨n1, n2⟩ := qa_ins a hE j8 h0 hs i1.1 (fun c hc => by rw [hw]; exact hk c (i1.2 c hc))
  constructor
  · intro le
    refine ⟨⟨S, ⟨g1.1, fun b hb => h1 b (g1.2 b hb)⟩, g2⟩, fun U q => ?_⟩
    rcases up U q with z | z <;> omega
  · intro lt
    refine ⟨⟨T ||| 2 ^ j, ⟨n1, fun b hb => ?_⟩, by rw [n2, i2]⟩, fun U q => ?_⟩
    · rcases qa_orT.mp hb with z | z
      · exact h1 b (hR0 b (i1.2 b z))
      · rw [← qa_powT.mp z]; exact hj
    · rcases up U q with z | z <;> omega
/-- no bidder below k at all: nothing -/
theorem qa_mx_none (hr : ∀ c, ¬ R c) : qa_Mx a B w R E 0 := by
  refine ⟨⟨0, qa_Ag0, qa_ms0⟩, fun S q => ?_⟩
  have e : S = 0 := qa_ext (fun i => ⟨fun h => absurd (q.2 i h) (hr i), fun h => qa_zT h⟩)
  rw [e, qa_ms0]
  exact Nat.le_refl 0
/-- two parts of the items, for the bidders before k and behind it -/
theorem qa_join (hE : E < 256) {D S1 S2 : Nat} (hD : D < 256) (hs : qa_sub D E) (h1 : qa_Ag B w (fun c => w c < k) D S1) (h2 : qa_Ag B w (fun c => k + 1 ≤ w c) (qa_sd E D) S2) : qa_Ag B w (fun c => w c ≠ k) E (S1 ||| S2) ∧ qa_ms a (S1 ||| S2) = qa_ms a S1 + qa_ms a S2 := by
  have d12 : ∀ b c, S1.testBit b = true → S2.testBit c = true → qa_dis (B b) (B c) ∧ w b ≠ w c := fun b c hb hc =>
    ⟨fun i hi => qa_nt (fun z => qa_tf ((h1.1.2 b hb).1.2 i hi) ((qa_sdT hE).mp ((h2.1.2 c hc).1.2 i z)).2), by have := h1.2 b hb; have := h2.2 c hc; dsimp only at *; omega⟩
  refine ⟨⟨⟨qa_orlt h1.1.1 h2.1.1, fun b hb => ?_⟩, fun b hb => ?_⟩, ?_⟩
  · rcases qa_orT.mp hb with z | z
    · refine ⟨⟨(h1.1.2 b z).1.1, fun i hi => hs i ((h1.1.2 b z).1.2 i hi)⟩, fun c hc n => ?_⟩
      rcases qa_orT.mp hc with y | y
      · exact (h1.1.2 b z).2 c y n
      · exact d12 b c z y
    · refine ⟨⟨(h2.1.2 b z).1.1, fun i hi => ((qa_sdT hE).mp ((h2.1.2 b z).1.2 i hi)).1⟩, fun c hc n => ?_⟩
      rcases qa_orT.mp hc with y | y
      · exact ⟨qa_dissym (d12 c b y z).1, Ne.symm (d12 c b y z).2⟩
      · exact (h2.1.2 b z).2 c y n
  · rcases qa_orT.mp hb with z | z
    · have := h1.2 b z; dsimp only at *; omega
    · have := h2.2 b z; dsimp only at *; omega
  · refine qa_sm_or (fun i hi => qa_nt (fun z => ?_))
    exact (d12 i i hi z).2 rfl
theorem qa_split (a : Nat → Nat) (hE : E < 256) (h : qa_Ag B w (fun c => w c ≠ k) E S) : ∃ D S1 S2, D < 256 ∧ qa_sub D E ∧ qa_Ag B w (fun c => w c < k) D S1 ∧ qa_Ag B w (fun c => k + 1 ≤ w c) (qa_sd E D) S2 ∧ qa_ms a S = qa_ms a S1 + qa_ms a S2 := by
  have hS := h.1.1
  have t1 : ∀ i, (qa_cl (fun i => S.testBit i = true ∧ w i < k)).testBit i = true ↔ S.testBit i = true ∧ w i < k := fun i =>
    ⟨fun z => (qa_clT.mp z).2, fun z => qa_clT.mpr ⟨qa_b8 hS z.1, z⟩⟩
  have t2 : ∀ i, (qa_cl (fun i => S.testBit i = true ∧ k + 1 ≤ w i)).testBit i = true ↔ S.testBit i = true ∧ k + 1 ≤ w i := fun i =>
    ⟨fun z => (qa_clT.mp z).2, fun z => qa_clT.mpr ⟨qa_b8 hS z.1, z⟩⟩
  have tD : ∀ i, (qa_cl (fun i => ∃ b, (S.testBit b = true ∧ w b < k) ∧ (B b).testBit i = true)).testBit i = true ↔ ∃ b, (S.testBit b = true ∧ w b < k) ∧ (B b).testBit i = true := fun i =>
    ⟨fun z => (qa_clT.mp z).2, fun ⟨b, z⟩ => qa_clT.mpr ⟨qa_b8 hE ((h.1.2 b z.1.1).1.2 i z.2), b, z⟩⟩
  refine ⟨qa_cl (fun i => ∃ b, (S.testBit b = true ∧ w b < k) ∧ (B b).testBit i = true), qa_cl (fun i => S.testBit i = true ∧ w i < k), qa_cl (fun i => S.testBit i = true ∧ k + 1 ≤ w i), qa_cllt _, fun i hi => ?_, ⟨⟨qa_cllt _, fun b hb => ?_⟩, fun b hb => ((t1 b).mp hb).2⟩, ⟨⟨qa_cllt _, fun b hb => ?_⟩, fun b hb => ((t2 b).mp hb).2⟩, ?_⟩
  · obtain ⟨b, z⟩ := (tD i).mp hi
    exact (h.1.2 b z.1.1).1.2 i z.2
  · have z := (t1 b).mp hb
    have q := h.1.2 b z.1
    exact ⟨⟨q.1.1, fun i hi => (tD i).mpr ⟨b, z, hi⟩⟩, fun c hc n => q.2 c ((t1 c).mp hc).1 n⟩
  · have z := (t2 b).mp hb
    have q := h.1.2 b z.1
    refine ⟨⟨q.1.1, fun i hi => (qa_sdT hE).mpr ⟨q.1.2 i hi, qa_nt (fun y => ?_)⟩⟩, fun c hc n => q.2 c ((t2 c).mp hc).1 n⟩
    obtain ⟨c, y1, y2⟩ := (tD i).mp y
    have n : c ≠ b := fun e => by rw [e] at y1; omega
    exact qa_tf y2 ((q.2 c y1.1 n).1 i hi)
  · have e : qa_cl (fun i => S.testBit i = true ∧ w i < k) ||| qa_cl (fun i => S.testBit i = true ∧ k + 1 ≤ w i) = S := qa_ext (fun i => by
      rw [qa_orT, t1, t2]
      constructor
      · rintro (z | z) <;> exact z.1
      · intro z
        have n : w i ≠ k := h.2 i z
        rcases Nat.lt_or_ge (w i) k with y | y
        · exact Or.inl ⟨z, y⟩
        · exact Or.inr ⟨z, by omega⟩)
    have q := qa_sm_or (f := qa_ma a) (S := qa_cl (fun i => S.testBit i = true ∧ w i < k)) (T := qa_cl (fun i => S.testBit i = true ∧ k + 1 ≤ w i)) (fun i hi => qa_nt (fun z => by have := ((t1 i).mp hi).2; have := ((t2 i).mp z).2; omega))
    rw [e] at q
    exact q
/-- the step that gave the greatest sum can be told -/
theorem qa_told (hE : E < 256) {mk : Nat → Nat} (hm : ∀ D, D < 256 → qa_Mx a B w (fun c => w c < k) D (mk D)) (h : qa_Mx a B w (fun c => w c < k + 1) E m) : m = mk E ∨ ∃ b, b < 8 ∧ 0 < B b ∧ w b = k ∧ qa_sub (B b) E ∧ qa_ma a b + mk (qa_sd E (B b)) = m := by
  obtain ⟨⟨S, h1, h2⟩, h3⟩ := h
  by_cases z : ∃ b, S.testBit b = true ∧ w b = k
  · obtain ⟨b, z1, z2⟩ := z
    have b8 := qa_b8 h1.1.1 z1
    obtain ⟨d1, d2, d3⟩ := qa_del a hE h1.1 z1
    have q := h1.1.2 b z1
    obtain ⟨⟨T, i1, i2⟩, i3⟩ := hm (qa_sd E (B b)) (qa_sdlt hE)
    have le := i3 _ ⟨d1, fun c hc => by have t := d3 c hc; have u := h1.2 c t.1; dsimp only at *; omega⟩
    obtain ⟨n1, n2⟩ := qa_ins a hE b8 q.1.1 q.1.2 i1.1 (fun c hc => by have t := i1.2 c hc; dsimp only at *; omega)
    have ge := h3 (T ||| 2 ^ b) ⟨n1, fun c hc => by
      rcases qa_orT.mp hc with y | y
      · have t := i1.2 c y; dsimp only at *; omega
      · rw [← qa_powT.mp y]; omega⟩
    exact Or.inr ⟨b, b8, q.1.1, z2, q.1.2, by omega⟩
  · refine Or.inl ?_
    obtain ⟨⟨T, i1, i2⟩, i3⟩ := hm E hE
    have le := i3 S ⟨h1.1, fun c hc => by have t := h1.2 c hc; have n : w c ≠ k := fun e => z ⟨c, hc, e⟩; dsimp only at *; omega⟩
    have ge := h3 T ⟨i1.1, fun c hc => by have t := i1.2 c hc; dsimp only at *; omega⟩
    omega
end
end
section
/-! following the table back; a bid's amount varied; a bidder's bids -/
theorem qa_smdel {f : Nat → Nat} {S b : Nat} (hS : S < 256) (hb : S.testBit b = true) : qa_sm f S = f b + qa_sm f (qa_sd S (2 ^ b)) := by
  have b8 := qa_b8 hS hb
  have e : qa_sd S (2 ^ b) ||| 2 ^ b = S := qa_ext (fun i => by
    rw [qa_orT, qa_pdel hS, qa_powT]
    constructor
    · rintro (h | h)
      · exact h.1
      · rw [← h]; exact hb
    · intro h
      by_cases e : b = i
      · exact Or.inr e
      · exact Or.inl ⟨h, e⟩)
  have q := qa_sm_or (f := f) (S := qa_sd S (2 ^ b)) (T := 2 ^ b) (fun i hi => qa_powF.mpr ((qa_pdel hS).mp hi).2)
  rw [e, qa_sm_pow b8] at q
  rw [q]
  exact Nat.add_comm _ _
def qa_Ch (a B w : Nat → Nat) (E0 M k E W : Nat) : Prop := E < 256 ∧ W < 256 ∧ (∀ S, qa_Ag B w (fun c => w c < k) E S → qa_Al B w E0 (S ||| W) ∧ qa_ms a (S ||| W) = qa_ms a S + qa_ms a W) ∧ ∀ m, qa_Mx a B w (fun c => w c < k) E m → m + qa_ms a W = M
section
variable {a B w : Nat → Nat} {E0 E M W m m' k b : Nat}
theorem qa_ch0 (hE : E0 < 256) (h : qa_Mx a B w (fun c => w c < 4) E0 M) : qa_Ch a B w E0 M 4 E0 0 := by
  refine ⟨hE, by decide, fun S q => ?_, fun m q => ?_⟩
  · rw [Nat.or_zero, qa_ms0]; exact ⟨q.1, rfl⟩
  · rw [qa_ms0]; exact qa_mx_uniq q h
theorem qa_ch_same (h : qa_Ch a B w E0 M (k + 1) E W) (h0 : qa_Mx a B w (fun c => w c < k) E m) (h1 : qa_Mx a B w (fun c => w c < k + 1) E m) : qa_Ch a B w E0 M k E W := by
  refine ⟨h.1, h.2.1, fun S q => h.2.2.1 S ⟨q.1, fun c hc => ?_⟩, fun n q => ?_⟩
  · have := q.2 c hc; dsimp only at *; omega
  · rw [qa_mx_uniq q h0]; exact h.2.2.2 m h1
theorem qa_ch_take (h : qa_Ch a B w E0 M (k + 1) E W) (b8 : b < 8) (h0 : 0 < B b) (hw : w b = k) (hs : qa_sub (B b) E) (hm : qa_Mx a B w (fun c => w c < k) (qa_sd E (B b)) m) (h1 : qa_Mx a B w (fun c => w c < k + 1) E (qa_ma a b + m)) : qa_Ch a B w E0 M k (qa_sd E (B b)) (W ||| 2 ^ b) := by
  have key : ∀ S, qa_Ag B w (fun c => w c < k) (qa_sd E (B b)) S → qa_Al B w E0 (S ||| (W ||| 2 ^ b)) ∧ qa_ms a (S ||| (W ||| 2 ^ b)) = qa_ms a S + (qa_ma a b + qa_ms a W) := fun S q => by
    obtain ⟨n1, n2⟩ := qa_ins a h.1 b8 h0 hs q.1 (fun c hc => by have := q.2 c hc; dsimp only at *; omega)
    obtain ⟨g1, g2⟩ := h.2.2.1 (S ||| 2 ^ b) ⟨n1, fun c hc => by
      rcases qa_orT.mp hc with y | y
      · have t := q.2 c y; dsimp only at *; omega
      · rw [← qa_powT.mp y]; omega⟩
    have e : S ||| 2 ^ b ||| W = S ||| (W ||| 2 ^ b) := by rw [Nat.or_assoc, Nat.or_comm (2 ^ b) W]
    rw [e] at g1 g2
    exact ⟨g1, by rw [g2, n2]; omega⟩
  have k0 := (key 0 qa_Ag0).2
  rw [Nat.zero_or, qa_ms0] at k0
  refine ⟨qa_sdlt h.1, qa_orlt h.2.1 (qa_powlt b8), fun S q => ⟨(key S q).1, ?_⟩, fun n q => ?_⟩
  · rw [(key S q).2, k0]; omega
  · have e := h.2.2.2 _ h1
    rw [qa_mx_uniq q hm, k0]
    omega
theorem qa_ch_end (hM : qa_Mx a B w (fun c => w c < 4) E0 M) (hw : ∀ c, w c < 4) (h : qa_Ch a B w E0 M 0 E W) : qa_Ar a B w (fun _ => True) E0 W := by
  obtain ⟨g1, g2⟩ := h.2.2.1 0 qa_Ag0
  rw [Nat.zero_or] at g1
  have e := h.2.2.2 0 (qa_mx_none (fun c z => absurd z (Nat.not_lt_zero _)))
  refine ⟨⟨g1, fun _ _ => trivial⟩, fun S q => ?_⟩
  have := hM.2 S ⟨q.1, fun c _ => hw c⟩
  omega
def qa_up (f : Nat → Nat) (j x : Nat) : Nat → Nat := fun i => if i = j then x else f i
theorem qa_up_s (f : Nat → Nat) (j x : Nat) : qa_up f j x j = x := if_pos rfl
theorem qa_up_n {f : Nat → Nat} {i j x : Nat} (h : i ≠ j) : qa_up f j x i = f i := if_neg h
theorem qa_up_up (f : Nat → Nat) (j x y : Nat) : qa_up (qa_up f j x) j y = qa_up f j y := by
  funext i
  unfold qa_up
  split <;> rfl
theorem qa_up_id (f : Nat → Nat) (j : Nat) : qa_up f j (f j) = f := by
  funext i
  unfold qa_up
  split
  · rename_i h; rw [h]
  · rfl
theorem qa_ms_up {S x : Nat} (h : ¬ S.testBit b = true) : qa_ms (qa_up a b x) S = qa_ms a S :=
  qa_sm_congr (fun i hi => by
    have n : i ≠ b := fun e => h (by rw [← e]; exact hi)
    unfold qa_ma
    rw [qa_up_n n])
theorem qa_ma_up (a : Nat → Nat) (b x : Nat) : qa_ma (qa_up a b x) b = x * 256 + 2 ^ (7 - b) := by unfold qa_ma; rw [qa_up_s]
theorem qa_win {mw mo x T : Nat} (hE : E < 256) (b8 : b < 8) (h0 : 0 < B b) (hs : qa_sub (B b) E) (hw : qa_Mx a B w (fun c => w c ≠ w b) (qa_sd E (B b)) mw) (ho : qa_Mx a B w (fun c => c ≠ b) E mo) (hT : qa_Ar (qa_up a b x) B w (fun _ => True) E T) : T.testBit b = true ↔ mo < x * 256 + 2 ^ (7 - b) + mw := by
  obtain ⟨⟨U, u1, u2⟩, u3⟩ := hw
  obtain ⟨⟨V, v1, v2⟩, v3⟩ := ho
  have nV : ¬ V.testBit b = true := fun z => (v1.2 b z) rfl
  have nU : ¬ U.testBit b = true := fun z => (u1.2 b z) rfl
  have tV := hT.2 V ⟨v1.1, fun _ _ => trivial⟩
  rw [qa_ms_up nV, v2] at tV
  constructor
  · intro z
    obtain ⟨d1, d2, d3⟩ := qa_del (qa_up a b x) hE hT.1.1 z
    have nT : ¬ (qa_sd T (2 ^ b)).testBit b = true := fun y => (d3 b y).2.1 rfl
    rw [qa_ms_up nT, qa_ma_up] at d2
    have le := u3 _ ⟨d1, fun c hc => (d3 c hc).2.2⟩
    have ne : mo ≠ qa_ms (qa_up a b x) T := fun e => by
      rw [← v2, ← qa_ms_up (x := x) nV] at e
      have e2 := qa_inj v1.1.1 hT.1.1.1 e
      rw [e2] at nV
      exact nV z
    omega
  · intro lt
    refine qa_nf (fun z => ?_)
    have nT : ¬ T.testBit b = true := fun y => qa_tf y z
    obtain ⟨n1, n2⟩ := qa_ins (qa_up a b x) hE b8 h0 hs u1.1 (fun c hc => u1.2 c hc)
    rw [qa_ma_up, qa_ms_up nU, u2] at n2
    have g := hT.2 _ ⟨n1, fun _ _ => trivial⟩
    have l := v3 T ⟨hT.1.1, fun c hc e => nT (by rw [← e]; exact hc)⟩
    rw [qa_ms_up nT] at g
    omega
theorem qa_lose {T : Nat} {a' : Nat → Nat} (hs : ¬ qa_sub (B b) E) (hT : qa_Ar a' B w (fun _ => True) E T) : ¬ T.testBit b = true := fun z => hs (hT.1.1.2 b z).1.2
theorem qa_with {mw T : Nat} (hE : E < 256) (b8 : b < 8) (h0 : 0 < B b) (hs : qa_sub (B b) E) (hw : qa_Mx a B w (fun c => w c ≠ w b) (qa_sd E (B b)) mw) (hT : qa_Al B w E T) (hb : T.testBit b = true) (hm : ∀ S, qa_Al B w E S → S.testBit b = true → qa_ms a S ≤ qa_ms a T) : qa_sm a T = a b + mw / 256 := by
  obtain ⟨⟨U, u1, u2⟩, u3⟩ := hw
  obtain ⟨d1, d2, d3⟩ := qa_del a hE hT hb
  have le := u3 _ ⟨d1, fun c hc => (d3 c hc).2.2⟩
  obtain ⟨n1, n2⟩ := qa_ins a hE b8 h0 hs u1.1 (fun c hc => u1.2 c hc)
  have ge := hm _ n1 (qa_orT.mpr (Or.inr (qa_powT.mpr rfl)))
  have e : mw = qa_ms a (qa_sd T (2 ^ b)) := by omega
  rw [e, qa_div (qa_sdlt hT.1), qa_smdel hT.1 hb]
theorem qa_mine {O T : Nat} (hO : ∀ i, O.testBit i = true ↔ i < 8 ∧ 0 < B i ∧ w i = k) (hT : qa_Al B w E T) (hb : T.testBit b = true) (hk : w b = k) : T &&& O = 2 ^ b := by
  refine qa_ext (fun i => ?_)
  rw [qa_andT, qa_powT, hO]
  constructor
  · intro z
    by_cases e : b = i
    · exact e
    · exact absurd (hk.trans z.2.2.2.symm) ((hT.2 b hb).2 i z.1 (Ne.symm e)).2
  · intro e
    rw [← e]
    exact ⟨hb, qa_b8 hT.1 hb, (hT.2 b hb).1.1, hk⟩
theorem qa_mine0 {O T : Nat} (hO : ∀ i, O.testBit i = true ↔ i < 8 ∧ 0 < B i ∧ w i = k) (hn : ∀ b, T.testBit b = true → w b ≠ k) : T &&& O = 0 := by
  refine qa_ext (fun i => ⟨fun z => ?_, fun z => qa_zT z⟩)
  have t := qa_andT.mp z
  exact absurd ((hO i).mp t.2).2.2 (hn i t.1)
end
/-! the rule between equals -/
theorem qa_sg_lt (S : Nat) : ∀ d, d ≤ 8 → qa_sg qa_rv S d < 2 ^ d := by
  intro d
  induction d with
  | zero => intro _; exact Nat.one_pos
  | succ d ih =>
    intro h
    have i := ih (by omega)
    have t : qa_t qa_rv S (7 - d) ≤ 2 ^ d := by
      by_cases z : S.testBit (7 - d) = true
      · rw [qa_tt z]; unfold qa_rv; rw [show 7 - (7 - d) = d by omega]; exact Nat.le_refl _
      · rw [qa_tz z]; omega
    show qa_t qa_rv S (7 - d) + qa_sg qa_rv S d < 2 ^ (d + 1)
    rw [Nat.pow_succ]
    omega
theorem qa_sg_1 {S d : Nat} (h : d < 8) (z : S.testBit (7 - d) = true) : qa_sg qa_rv S (d + 1) = 2 ^ d + qa_sg qa_rv S d := by
  show qa_t qa_rv S (7 - d) + qa_sg qa_rv S d = _
  rw [qa_tt z]
  unfold qa_rv
  rw [show 7 - (7 - d) = d by omega]
theorem qa_sg_0 {S d : Nat} (z : S.testBit (7 - d) = false) : qa_sg qa_rv S (d + 1) = qa_sg qa_rv S d := by
  show qa_t qa_rv S (7 - d) + qa_sg qa_rv S d = _
  rw [qa_tz (fun y => qa_tf y z)]
  omega
theorem qa_ms_lt {a : Nat → Nat} {S T : Nat} (hS : S < 256) (hT : T < 256) (h : qa_sm a S ≠ qa_sm a T) : qa_ms a T < qa_ms a S ↔ qa_sm a T < qa_sm a S := by
  rw [qa_ms_eq, qa_ms_eq]
  have := qa_rv_lt S hS
  have := qa_rv_lt T hT
  omega
theorem qa_ms_lt' {a : Nat → Nat} {S T : Nat} (h : qa_sm a S = qa_sm a T) : qa_ms a T < qa_ms a S ↔ qa_sg qa_rv T 8 < qa_sg qa_rv S 8 := by
  rw [qa_ms_eq, qa_ms_eq, h]
  show _ ↔ qa_sm qa_rv T < qa_sm qa_rv S
  omega
end
section
/-! the ints of the walks by naturals -/
def qa_A (f : Nat → Nat) : Nat → Int32 := fun j => nI (f j)
def qa_B (p : Nat) (bu : Nat → Nat) : Nat → Nat := fun j => if p.testBit j = true then bu j else 0
theorem qa_B1 {p : Nat} {bu : Nat → Nat} {j : Nat} (h : p.testBit j = true) : qa_B p bu j = bu j := if_pos h
theorem qa_B0 {p : Nat} {bu : Nat → Nat} {j : Nat} (h : p.testBit j = false) : qa_B p bu j = 0 := if_neg (fun z => qa_tf z h)
theorem qa_Bp {p : Nat} {bu : Nat → Nat} {j : Nat} (h : 0 < qa_B p bu j) : p.testBit j = true := qa_nf (fun z => by rw [qa_B0 z] at h; omega)
theorem qa_v {P : Int32 → Prop} {x y : Int32} (e : x = y) (h : P y) : P x := by rw [e]; exact h
theorem qa_rd {f : Nat → Nat} {x : Int32} (j : Nat) (hx : x = nI j) (hj : j < 2 ^ 31) : qa_A f x.toNatClampNeg = nI (f j) := by
  rw [hx, nI_clamp hj]; rfl
theorem qa_r8 {f : Nat → Nat} {j : Nat} (hj : j < 8) : qa_A f (nI j).toNatClampNeg = nI (f j) := qa_rd j rfl (by omega)
theorem qa_wr (f : Nat → Nat) (j v : Nat) : upd (qa_A f) j (nI v) = qa_A (qa_up f j v) := by
  funext i
  unfold upd qa_A qa_up
  split <;> rfl
theorem qa_wrx {f : Nat → Nat} {x y : Int32} (j v : Nat) (hx : x = nI j) (hy : y = nI v) (hj : j < 2 ^ 31) : upd (qa_A f) x.toNatClampNeg y = qa_A (qa_up f j v) := by
  rw [hx, hy, nI_clamp hj, qa_wr]
theorem qa_btn (n i : Nat) : bt (nI n) i = (decide (i < 32) && n.testBit i) := by
  unfold bt
  show (BitVec.ofNat 32 n).getLsbD i = _
  rw [BitVec.getLsbD_ofNat]
theorem qa_bitq {S b : Nat} (hS : S < 2 ^ 31) (hb : b < 32) : ((nI S >>> (nI b &&& 31)) &&& 1) = nI (S / 2 ^ b % 2) := by
  have le : S / 2 ^ b ≤ S := Nat.div_le_self _ _
  rw [pk_shrN hS (nI b &&& 31) b (s_l b hb), pk_andN (by omega) 1 (by decide)]
theorem qa_bit0 {S b : Nat} (hS : S < 2 ^ 31) (hb : b < 32) : ((nI S >>> (nI b &&& 31)) &&& 1) = 0 ↔ S.testBit b = false := by
  rw [qa_bitq hS hb, ← nI_0, nI_eq (by omega) (by omega), Nat.testBit_eq_decide_div_mod_eq, decide_eq_false_iff_not]
  generalize S / 2 ^ b = z
  omega
theorem qa_bit1 {S b : Nat} (hS : S < 2 ^ 31) (hb : b < 32) : ((nI S >>> (nI b &&& 31)) &&& 1) = 1 ↔ S.testBit b = true := by
  rw [qa_bitq hS hb, show (1 : Int32) = nI 1 from rfl, nI_eq (by omega) (by omega), Nat.testBit_eq_decide_div_mod_eq, decide_eq_true_iff]
theorem qa_bitn0 {S b : Nat} (hS : S < 2 ^ 31) (hb : b < 32) (h : S.testBit b = true) : ¬ ((nI S >>> (nI b &&& 31)) &&& 1) = 0 := fun z => qa_tf h ((qa_bit0 hS hb).mp z)
theorem qa_bitn1 {S b : Nat} (hS : S < 2 ^ 31) (hb : b < 32) (h : S.testBit b = false) : ¬ ((nI S >>> (nI b &&& 31)) &&& 1) = 1 := fun z => qa_tf ((qa_bit1 hS hb).mp z) h
theorem qa_shl {b : Nat} (hb : b < 31) : (1 : Int32) <<< (nI b &&& 31) = nI (2 ^ b) := by
  have le : 2 ^ b < 2 ^ 31 := Nat.pow_lt_pow_right (by decide) hb
  have h := pk_shlN (n := 1) (nI b &&& 31) b (s_l b (by omega)) (by omega)
  rw [Nat.one_mul] at h
  exact h
theorem qa_or (a b : Nat) : nI a ||| nI b = nI (a ||| b) := by
  apply Int32.toBitVec_inj.1
  show BitVec.ofNat 32 a ||| BitVec.ofNat 32 b = BitVec.ofNat 32 (a ||| b)
  apply BitVec.eq_of_getLsbD_eq
  intro i hi
  simp [hi]
theorem qa_an {x : Nat} (hx : x < 256) (y : Nat) : nI x &&& (nI y ^^^ (-1)) = nI (qa_sd x y) := b_ext (fun i hi => by
  rw [b_and, b_xor, b_m1 i hi, qa_btn, qa_btn, qa_btn, qa_sdB hx, decide_eq_true hi]
  cases x.testBit i <;> cases y.testBit i <;> rfl)
theorem qa_z {x : Nat} (hx : x < 2 ^ 31) : nI x = 0 ↔ x = 0 := by rw [← nI_0, nI_eq hx (by omega)]
theorem qa_an0 {x y : Nat} (hx : x < 256) : nI x &&& (nI y ^^^ (-1)) = 0 ↔ qa_sub x y := by
  have l := qa_sdlt (y := y) hx
  rw [qa_an hx, qa_z (by omega)]
  constructor
  · intro h i hi
    refine qa_nf (fun z => ?_)
    have t := (qa_sdT hx).mpr ⟨hi, z⟩
    rw [h] at t
    exact qa_zT t
  · intro h
    refine qa_ext (fun i => ⟨fun z => ?_, fun z => qa_zT z⟩)
    have t := (qa_sdT hx).mp z
    exact qa_tf (h i t.1) t.2
theorem qa_and0 {x y : Nat} (hx : x < 256) : nI x &&& nI y = 0 ↔ qa_dis x y := by
  have l : x &&& y ≤ x := Nat.and_le_left
  rw [nx_and, qa_z (by omega)]
  constructor
  · intro h i hi
    refine qa_nt (fun z => ?_)
    have t := qa_andT.mpr ⟨hi, z⟩
    rw [h] at t
    exact qa_zT t
  · intro h
    refine qa_ext (fun i => ⟨fun z => ?_, fun z => qa_zT z⟩)
    have t := qa_andT.mp z
    exact qa_tf t.2 (h i t.1)
theorem qa_ix (k E : Nat) : nI k * 256 + nI E = nI (k * 256 + E) := by
  show nI k * nI 256 + nI E = _
  rw [pk_mul, nI_add]
theorem qa_ix1 (k E : Nat) : (nI k + 1) * 256 + nI E = nI ((k + 1) * 256 + E) := by
  rw [nI_1]; exact qa_ix _ _
theorem qa_ix4 (E : Nat) : 1024 + nI E = nI (1024 + E) := nI_add 1024 E
theorem qa_shr8 {m : Nat} (hm : m < 2 ^ 31) : nI m >>> ((8 : Int32) &&& 31) = nI (m / 256) := pk_shrN hm _ 8 (by decide)
theorem qa_n8 : ∀ x, x < 128 → (nI x).toInt8.toInt32 = nI x := by decide +kernel
theorem qa_n16 : ∀ x, x < 256 → (nI x).toInt16.toInt32 = nI x := by decide +kernel
theorem qa_nb {x : Nat} (hx : x < 128) : vp_nar .byte (nI x).toInt8.toInt32 = nI x := by rw [pk_vb, qa_n8 x hx]
theorem qa_ns {x : Nat} (hx : x < 256) : vp_nar .short (nI x).toInt16.toInt32 = nI x := by rw [pk_vs, qa_n16 x hx]
theorem qa_off (h : Nat) : 255 &&& (nI h ^^^ (-1)) = nI (qa_sd 255 h) := qa_an (x := 255) (by decide) h
theorem qa_offlt (h : Nat) : qa_sd 255 h < 256 := qa_sdlt (by decide)
theorem qa_mrk {b : Nat} (hb : b < 8) : (1 : Int32) <<< ((7 - nI b) &&& 31) = nI (2 ^ (7 - b)) := by
  have e : (7 : Int32) - nI b = nI (7 - b) := pk_sub (a := 7) (by omega)
  rw [e]
  exact qa_shl (by omega)
def qa_dn : Nat → Int32
  | 0 => -1
  | k + 1 => nI k
theorem qa_dn1 (k : Nat) : nI k + (-1) = qa_dn k := by
  cases k with
  | zero => decide
  | succ k => exact pk_m1 k
theorem qa_10 : ¬ (1 : Int32) = 0 := by decide
theorem qa_subh {x h : Nat} (hx : x < 256) : qa_sub x (qa_sd 255 h) ↔ qa_dis x h := by
  constructor
  · intro z i hi
    exact ((qa_sdT (by decide)).mp (z i hi)).2
  · intro z i hi
    refine (qa_sdT (by decide)).mpr ⟨?_, z i hi⟩
    rw [qa_255, decide_eq_true (qa_b8 hx hi)]
end
section
/-! the component's own methods: has, marks, one step of the tables -/
def qa_ok (p h : Nat) (bu w a : Nat → Nat) : Prop := p < 256 ∧ h < 256 ∧ (∀ j, bu j < 256) ∧ (∀ j, w j < 4) ∧ (∀ j, a j ≤ 50) ∧ ∀ j, p.testBit j = true → 0 < bu j
section
variable {p h wn : Nat} {kn : Int32} {bu w a be on : Nat → Nat}
theorem qx_has {post : Int32 → Prop} {b : Nat} (hp : p < 256) (hb : b < 8) (h0 : p.testBit b = false → post 0) (h1 : p.testBit b = true → post 1) : wpX_has post (nI p, nI h, kn, nI wn, qa_A bu, qa_A w, qa_A a, qa_A be, qa_A on) (nI b) := by
  refine br_f (nI_pos (by omega)) (br_f (nI_ge (b := 8) hb (by decide)) ?_)
  exact br_c (fun z => h0 ((qa_bit0 (by omega) (by omega)).mp z)) (fun z => h1 (qa_nf (fun y => z ((qa_bit0 (by omega) (by omega)).mpr y))))
theorem qx_hasN {post : Int32 → Prop} {x : Int32} (hx : x < 0 ∨ nI 8 ≤ x) (h0 : post 0) : wpX_has post (nI p, nI h, kn, nI wn, qa_A bu, qa_A w, qa_A a, qa_A be, qa_A on) x := by
  refine br_c (fun _ => h0) (fun z => ?_)
  exact br_t (hx.resolve_left z) h0
theorem qx_ma {post : Int32 → Prop} {j : Nat} (j8 : j < 8) (hp : post (nI (qa_ma a j))) : wpX_markedAmount post (nI p, nI h, kn, nI wn, qa_A bu, qa_A w, qa_A a, qa_A be, qa_A on) (nI j) := by
  refine And.intro (vp_in_nI j8 (by decide)) ?_
  show post (qa_A a (nI j).toNatClampNeg * 256 + ((1 : Int32) <<< ((7 - nI j) &&& 31)))
  rw [qa_r8 j8, qa_mrk j8, qa_ix]
  exact hp
theorem qx_of {post : Int32 → Prop} {k E : Nat} (hk : k ≤ 3) (hE : E < 256) (hp : post (nI (be (k * 256 + E)))) : wpX_others post (nI p, nI h, kn, nI wn, qa_A bu, qa_A w, qa_A a, qa_A be, qa_A on) (nI k) (nI E) 1 := by
  refine br_f qa_10 (And.intro ?_ ?_)
  · rw [qa_ix]; exact vp_in_nI (by omega) (by decide)
  · rw [qa_rd _ (qa_ix k E) (by omega)]; exact hp
theorem qx_ob {post : Int32 → Prop} {k E : Nat} (hk : k ≤ 3) (hE : E < 256) (hp : post (nI (on ((k + 1) * 256 + E)))) : wpX_others post (nI p, nI h, kn, nI wn, qa_A bu, qa_A w, qa_A a, qa_A be, qa_A on) (nI k) (nI E) 0 := by
  refine br_t rfl (And.intro ?_ ?_)
  · rw [qa_ix1]; exact vp_in_nI (by omega) (by decide)
  · rw [qa_rd _ (qa_ix1 k E) (by omega)]; exact hp
theorem qx_bs12 {post : Int32 → Prop} {k E : Nat} {x3 : Int32} {R0 : Nat → Prop} {mk : Nat → Nat} (ok : qa_ok p h bu w a) (hk : k < 4) (hE : E < 256)
    (ho : ∀ D, D < 256 → ∀ q : Int32 → Prop, q (nI (mk D)) → wpX_others q (nI p, nI h, kn, nI wn, qa_A bu, qa_A w, qa_A a, qa_A be, qa_A on) (nI k) (nI D) x3)
    (hm : ∀ D, D < 256 → qa_Mx a (qa_B p bu) w R0 D (mk D)) (hR : ∀ c, R0 c → w c ≠ k)
    (hp : ∀ m, qa_Mx a (qa_B p bu) w (fun c => R0 c ∨ w c = k) E m → post (nI m)) :
    ∀ d j m, j + d = 8 → qa_Mx a (qa_B p bu) w (fun c => R0 c ∨ (w c = k ∧ c < j)) E m → wX_bestStep_12 post (nI k) (nI E) x3 (nI p) (nI h) kn (nI wn) (qa_A bu) (qa_A w) (qa_A a) (qa_A be) (qa_A on) (d + 1) (nI m) (nI j) := by
  intro d
  induction d with
  | zero =>
    intro j m hj hI
    obtain rfl : j = 8 := by omega
    refine br_t (nI_le (a := 8) (b := 8) (by omega) (by decide)) (hp m (qa_mx_congr (fun c hc => ?_) hI))
    exact ⟨fun z => z.elim Or.inl (fun y => Or.inr y.1), fun z => z.elim Or.inl (fun y => Or.inr ⟨y, hc⟩)⟩
  | succ d ih =>
    intro j m hj hI
    have j8 : j < 8 := by omega
    have sk : (0 < qa_B p bu j → qa_sub (qa_B p bu j) E → w j ≠ k) → wX_bestStep_12 post (nI k) (nI E) x3 (nI p) (nI h) kn (nI wn) (qa_A bu) (qa_A w) (qa_A a) (qa_A be) (qa_A on) (d + 1) (nI m) (nI (j + 1)) := fun z =>
      ih (j + 1) m (by omega) (qa_skip (j := j) (fun c y => y.elim Or.inl (fun q => Or.inr ⟨q.1, by omega⟩)) (fun c n y => y.elim Or.inl (fun q => Or.inr ⟨q.1, by omega⟩)) (fun y1 y2 y => y.elim Or.inl (fun q => absurd q.1 (z y1 y2))) hI)
    refine br_f (nI_ge (b := 8) j8 (by decide)) (qx_has ok.1 j8 (fun z => ?_) (fun z => ?_))
    · exact br_t rfl (nm_r (nI_1 j) (sk (fun y => absurd (qa_Bp y) (fun q => qa_tf q z))))
    · have Bj := qa_B1 (bu := bu) z
      refine br_f qa_10 (And.intro (vp_in_nI j8 (by decide)) ?_)
      rw [qa_r8 j8, qa_r8 j8]
      by_cases wk : w j = k
      · refine br_t (congrArg nI wk) (And.intro (vp_in_nI j8 (by decide)) ?_)
        by_cases sb : qa_sub (bu j) E
        · refine br_t ((qa_an0 (ok.2.2.1 j)).mpr sb) (qx_ma j8 (And.intro (vp_in_nI j8 (by decide)) ?_))
          rw [qa_an hE]
          refine ho _ (qa_sdlt hE) _ (nm_r (nI_add _ _) ?_)
          have hm' := hm (qa_sd E (bu j)) (qa_sdlt hE)
          have st := qa_step (j := j) (R' := fun c => R0 c ∨ (w c = k ∧ c < j + 1)) hE j8 (by rw [Bj]; exact ok.2.2.2.2.2 j z) (by rw [Bj]; exact sb) wk hR (fun c y => Or.inl y) (fun c y n => y.elim id (fun q => absurd q.1 n)) (fun c y => y.elim Or.inl (fun q => Or.inr ⟨q.1, by omega⟩)) (fun c n y => y.elim Or.inl (fun q => Or.inr ⟨q.1, by omega⟩)) (Or.inr ⟨wk, by omega⟩) hI (by rw [Bj]; exact hm')
          have b1 := qa_mxb ok.2.2.2.2.1 hI
          have b2 := qa_mxb ok.2.2.2.2.1 hm'
          have b3 := qa_mab ok.2.2.2.2.1 j
          exact pk_le (qa_ma a j + mk (qa_sd E (bu j))) m (fun le => nm_r (nI_1 j) (ih (j + 1) m (by omega) (st.1 le))) (fun lt => nm_r (nI_1 j) (ih (j + 1) _ (by omega) (st.2 lt))) rfl rfl (by omega) (by omega)
        · exact br_f (fun y => sb ((qa_an0 (ok.2.2.1 j)).mp y)) (nm_r (nI_1 j) (sk (fun _ y => absurd (by rw [← Bj]; exact y) sb)))
      · have w4 := ok.2.2.2.1 j
        exact br_f (fun y => wk ((nI_eq (by omega) (by omega)).mp y)) (nm_r (nI_1 j) (sk (fun _ _ => wk)))
theorem qx_bestF {post : Int32 → Prop} {k E : Nat} (ok : qa_ok p h bu w a) (hk : k < 4) (hE : E < 256)
    (hm : ∀ D, D < 256 → qa_Mx a (qa_B p bu) w (fun c => w c < k) D (be (k * 256 + D)))
    (hp : ∀ m, qa_Mx a (qa_B p bu) w (fun c => w c < k + 1) E m → post (nI m)) : wpX_bestStep post (nI p, nI h, kn, nI wn, qa_A bu, qa_A w, qa_A a, qa_A be, qa_A on) (nI k) (nI E) 1 := by
  have L := qx_bs12 (post := post) (kn := kn) (wn := wn) (be := be) (on := on) (x3 := 1) (R0 := fun c => w c < k) (mk := fun D => be (k * 256 + D)) ok hk hE (fun D hD q hq => qx_of (by omega) hD hq) hm (fun c y => by omega) (fun m hI => hp m (qa_mx_congr (fun c _ => by omega) hI)) 8 0 (be (k * 256 + E)) rfl (qa_mx_congr (fun c _ => by omega) (hm E hE))
  unfold wpX_bestStep
  dsimp only
  refine qx_of (k := k) (by omega) hE ?_
  exact ⟨9, L⟩
theorem qx_bestB {post : Int32 → Prop} {k E : Nat} (ok : qa_ok p h bu w a) (hk : k < 4) (hE : E < 256)
    (hm : ∀ D, D < 256 → qa_Mx a (qa_B p bu) w (fun c => k + 1 ≤ w c) D (on ((k + 1) * 256 + D)))
    (hp : ∀ m, qa_Mx a (qa_B p bu) w (fun c => k ≤ w c) E m → post (nI m)) : wpX_bestStep post (nI p, nI h, kn, nI wn, qa_A bu, qa_A w, qa_A a, qa_A be, qa_A on) (nI k) (nI E) 0 := by
  have L := qx_bs12 (post := post) (kn := kn) (wn := wn) (be := be) (on := on) (x3 := 0) (R0 := fun c => k + 1 ≤ w c) (mk := fun D => on ((k + 1) * 256 + D)) ok hk hE (fun D hD q hq => qx_ob (by omega) hD hq) hm (fun c y => by omega) (fun m hI => hp m (qa_mx_congr (fun c _ => by omega) hI)) 8 0 (on ((k + 1) * 256 + E)) rfl (qa_mx_congr (fun c _ => by omega) (hm E hE))
  unfold wpX_bestStep
  dsimp only
  refine qx_ob (k := k) (by omega) hE ?_
  exact ⟨9, L⟩
end
end
section
/-! the component's findWinners -/
def qa_Fd (a B w be : Nat → Nat) (k E m b : Nat) : Prop := b < 8 ∧ 0 < B b ∧ w b = k ∧ qa_sub (B b) E ∧ qa_ma a b + be (k * 256 + qa_sd E (B b)) = m
section
variable {p h wn : Nat} {kn : Int32} {bu w a be on : Nat → Nat}
theorem qx_bt36 {post : Int32 → Prop} {k E m : Nat} (ok : qa_ok p h bu w a) (hk : k < 4) (hE : E < 256) (hm : m < 131072)
    (hb : ∀ D, D < 256 → be (k * 256 + D) < 131072) (hp : ∀ b, qa_Fd a (qa_B p bu) w be k E m b → post (nI b)) :
    ∀ d j, j + d = 8 → (∃ b, j ≤ b ∧ qa_Fd a (qa_B p bu) w be k E m b) → wX_bidTaken_36 post (nI k) (nI E) (nI m) (nI p) (nI h) kn (nI wn) (qa_A bu) (qa_A w) (qa_A a) (qa_A be) (qa_A on) (d + 1) (nI j) := by
  intro d
  induction d with
  | zero =>
    intro j hj ⟨b, h1, h2⟩
    have := h2.1
    omega
  | succ d ih =>
    intro j hj ⟨b, h1, h2⟩
    have j8 : j < 8 := by omega
    have sk : (¬ qa_Fd a (qa_B p bu) w be k E m j) → wX_bidTaken_36 post (nI k) (nI E) (nI m) (nI p) (nI h) kn (nI wn) (qa_A bu) (qa_A w) (qa_A a) (qa_A be) (qa_A on) (d + 1) (nI (j + 1)) := fun z =>
      ih (j + 1) (by omega) ⟨b, by
        have n : j ≠ b := fun e => z (by rw [e]; exact h2)
        omega, h2⟩
    refine br_f (nI_ge (b := 8) j8 (by decide)) (qx_has ok.1 j8 (fun z => ?_) (fun z => ?_))
    · exact br_t rfl (nm_r (nI_1 j) (sk (fun y => qa_tf (qa_Bp y.2.1) z)))
    · have Bj := qa_B1 (bu := bu) z
      refine br_f qa_10 (And.intro (vp_in_nI j8 (by decide)) ?_)
      rw [qa_r8 j8, qa_r8 j8]
      by_cases wk : w j = k
      · refine br_t (congrArg nI wk) (And.intro (vp_in_nI j8 (by decide)) ?_)
        by_cases sb : qa_sub (bu j) E
        · refine br_t ((qa_an0 (ok.2.2.1 j)).mpr sb) (And.intro (vp_in_nI j8 (by decide)) ?_)
          rw [qa_an hE, qa_ix]
          have l := qa_sdlt (y := bu j) hE
          refine And.intro (vp_in_nI (by omega) (by decide)) (nm_r (qa_rd (k * 256 + qa_sd E (bu j)) rfl (by omega)) (qx_ma j8 ?_))
          rw [nI_add]
          have b2 := hb _ l
          have b3 := qa_mab ok.2.2.2.2.1 j
          refine pk_eq (qa_ma a j + be (k * 256 + qa_sd E (bu j))) m (fun e => ?_) (fun ne => nm_r (nI_1 j) (sk (fun y => ?_))) rfl rfl (by omega) (by omega)
          · exact hp j ⟨j8, by rw [Bj]; exact ok.2.2.2.2.2 j z, wk, by rw [Bj]; exact sb, by rw [Bj]; exact e⟩
          · have q := y.2.2.2.2
            rw [Bj] at q
            exact ne q
        · exact br_f (fun y => sb ((qa_an0 (ok.2.2.1 j)).mp y)) (nm_r (nI_1 j) (sk (fun y => sb (by rw [← Bj]; exact y.2.2.2.1))))
      · have w4 := ok.2.2.2.1 j
        exact br_f (fun y => wk ((nI_eq (by omega) (by omega)).mp y)) (nm_r (nI_1 j) (sk (fun y => wk y.2.2.1)))
theorem qx_bidTaken {post : Int32 → Prop} {k E : Nat} (ok : qa_ok p h bu w a) (hk : k < 4) (hE : E < 256)
    (hm : ∀ D, D < 256 → qa_Mx a (qa_B p bu) w (fun c => w c < k) D (be (k * 256 + D)))
    (hm1 : qa_Mx a (qa_B p bu) w (fun c => w c < k + 1) E (be ((k + 1) * 256 + E)))
    (h1 : be ((k + 1) * 256 + E) = be (k * 256 + E) → post (-1))
    (h2 : ∀ b, qa_Fd a (qa_B p bu) w be k E (be ((k + 1) * 256 + E)) b → post (nI b)) : wpX_bidTaken post (nI p, nI h, kn, nI wn, qa_A bu, qa_A w, qa_A a, qa_A be, qa_A on) (nI k) (nI E) := by
  have a50 := ok.2.2.2.2.1
  have b1 := qa_mxb a50 hm1
  have b0 := qa_mxb a50 (hm E hE)
  refine And.intro (by rw [qa_ix1]; exact vp_in_nI (by omega) (by decide)) (nm_r (qa_rd _ (qa_ix1 k E) (by omega)) (And.intro (by rw [qa_ix]; exact vp_in_nI (by omega) (by decide)) ?_))
  rw [qa_rd _ (qa_ix k E) (by omega)]
  refine pk_eq (be ((k + 1) * 256 + E)) (be (k * 256 + E)) h1 (fun ne => ?_) rfl rfl (by omega) (by omega)
  refine ⟨9, qx_bt36 ok hk hE b1 (fun D hD => qa_mxb a50 (hm D hD)) h2 8 0 rfl ?_⟩
  rcases qa_told (mk := fun D => be (k * 256 + D)) hE hm hm1 with e | ⟨b, e1, e2, e3, e4, e5⟩
  · exact absurd e ne
  · exact ⟨b, by omega, e1, e2, e3, e4, e5⟩
theorem qx_fw9 {post : Int32 → Prop} (ok : qa_ok p h bu w a) (hm : ∀ k D, k ≤ 4 → D < 256 → qa_Mx a (qa_B p bu) w (fun c => w c < k) D (be (k * 256 + D))) {E0 M : Nat} (hM : qa_Mx a (qa_B p bu) w (fun c => w c < 4) E0 M)
    (hp : ∀ W, qa_Ar a (qa_B p bu) w (fun _ => True) E0 W → post (nI W)) :
    ∀ k E W, k ≤ 4 → qa_Ch a (qa_B p bu) w E0 M k E W → wX_findWinners_9 post (nI p) (nI h) kn (nI wn) (qa_A bu) (qa_A w) (qa_A a) (qa_A be) (qa_A on) (k + 1) (nI E) (nI W) (qa_dn k) := by
  intro k
  induction k with
  | zero =>
    intro E W hk hc
    exact br_t (show (-1 : Int32) < 0 by decide) (hp W (qa_ch_end hM ok.2.2.2.1 hc))
  | succ k ih =>
    intro E W hk hc
    have hE := hc.1
    refine br_f (show ¬ nI k < 0 from nI_pos (by omega)) ?_
    refine qx_bidTaken (k := k) ok (by omega) hE (fun D hD => hm k D (by omega) hD) (hm (k + 1) E hk hE) (fun e => ?_) (fun b hb => ?_)
    · refine br_t (by decide) (nm_r (qa_dn1 k) (ih E W (by omega) (qa_ch_same hc (hm k E (by omega) hE) ?_)))
      rw [← e]
      exact hm (k + 1) E hk hE
    · obtain ⟨b8, e2, e3, e4, e5⟩ := hb
      have Bb := qa_B1 (bu := bu) (qa_Bp e2)
      have C := qa_ch_take hc b8 e2 e3 e4 (hm k _ (by omega) (qa_sdlt hE)) (by rw [e5]; exact hm (k + 1) E hk hE)
      rw [Bb] at C
      refine br_f (nI_pos (by omega)) (nm_r (e' := nI (W ||| 2 ^ b)) (by rw [qa_shl (by omega), qa_or]) (And.intro (vp_in_nI b8 (by decide)) (nm_r (e' := nI (qa_sd E (bu b))) (by rw [qa_r8 b8, qa_an hE]) (nm_r (qa_dn1 k) (ih _ _ (by omega) C)))))
theorem qx_findWinners {post : Int32 → Prop} (ok : qa_ok p h bu w a) (hm : ∀ k D, k ≤ 4 → D < 256 → qa_Mx a (qa_B p bu) w (fun c => w c < k) D (be (k * 256 + D)))
    (hp : ∀ W, qa_Ar a (qa_B p bu) w (fun _ => True) (qa_sd 255 h) W → post (nI W)) : wpX_findWinners post (nI p, nI h, kn, nI wn, qa_A bu, qa_A w, qa_A a, qa_A be, qa_A on) := by
  show ∃ n9 : Nat, wX_findWinners_9 post (nI p) (nI h) kn (nI wn) (qa_A bu) (qa_A w) (qa_A a) (qa_A be) (qa_A on) n9 (255 &&& (nI h ^^^ (-1))) 0 3
  rw [qa_off]
  have M := hm 4 (qa_sd 255 h) (by omega) (qa_offlt h)
  exact ⟨5, qx_fw9 ok hm M hp 4 _ 0 (by omega) (qa_ch0 (qa_offlt h) M)⟩
end
end
section
/-! the component's tables -/
def qa_T1 (a B w be : Nat → Nat) (k j : Nat) : Prop := (∀ i D, i ≤ k → D < 256 → qa_Mx a B w (fun c => w c < i) D (be (i * 256 + D))) ∧ ∀ D, D < j → qa_Mx a B w (fun c => w c < k + 1) D (be ((k + 1) * 256 + D))
def qa_T2 (a B w on : Nat → Nat) (k j : Nat) : Prop := (∀ i D, k + 1 ≤ i → i ≤ 4 → D < 256 → qa_Mx a B w (fun c => i ≤ w c) D (on (i * 256 + D))) ∧ ∀ D, D < j → qa_Mx a B w (fun c => k ≤ w c) D (on (k * 256 + D))
def qa_Tb (a B w be : Nat → Nat) : Prop := ∀ k D, k ≤ 4 → D < 256 → qa_Mx a B w (fun c => w c < k) D (be (k * 256 + D))
def qa_Tn (a B w on : Nat → Nat) (k : Nat) : Prop := ∀ i D, k ≤ i → i ≤ 4 → D < 256 → qa_Mx a B w (fun c => i ≤ w c) D (on (i * 256 + D))
def qa_Tab (a B w : Nat → Nat) (h : Nat) (be on : Nat → Nat) (wn : Nat) : Prop := qa_Tb a B w be ∧ qa_Tn a B w on 0 ∧ qa_Ar a B w (fun _ => True) (qa_sd 255 h) wn
section
variable {p h wn : Nat} {kn : Int32} {bu w a : Nat → Nat}
theorem qx_l103 {post : SX → Prop} {J : Int32 → (Nat → Int32) → (Nat → Int32) → (Nat → Int32) → (Nat → Int32) → (Nat → Int32) → Prop} {k : Nat} {be : Nat → Nat} (ok : qa_ok p h bu w a) (hk : k < 4)
    (hJ : ∀ on, qa_T2 a (qa_B p bu) w on k 256 → J (qa_dn k) (qa_A bu) (qa_A w) (qa_A a) (qa_A be) (qa_A on)) :
    ∀ d j on, j + d = 256 → qa_T2 a (qa_B p bu) w on k j → wX_learn_103 post J (nI k) (nI p) (nI h) kn (nI wn) (d + 1) (nI j) (qa_A bu) (qa_A w) (qa_A a) (qa_A be) (qa_A on) := by
  intro d
  induction d with
  | zero =>
    intro j on hj hT
    obtain rfl : j = 256 := by omega
    exact br_t (nI_le (a := 256) (b := 256) (by omega) (by decide)) (nm_r (qa_dn1 k) (hJ on hT))
  | succ d ih =>
    intro j on hj hT
    refine br_f (nI_ge (b := 256) (by omega) (by decide)) (qx_bestB ok hk (by omega) (fun D hD => hT.1 (k + 1) D (by omega) (by omega) hD) (fun m hm => ?_))
    refine And.intro (by rw [qa_ix]; exact vp_in_nI (by omega) (by decide)) (nm_r (qa_wrx (k * 256 + j) m (qa_ix k j) rfl (by omega)) (nm_r (nI_1 j) (ih (j + 1) _ (by omega) ⟨fun i D h1 h2 h3 => ?_, fun D hD => ?_⟩)))
    · rw [qa_up_n (by omega)]; exact hT.1 i D h1 h2 h3
    · by_cases e : D = j
      · rw [e, qa_up_s]; exact hm
      · rw [qa_up_n (by omega)]; exact hT.2 D (by omega)
theorem qx_l97 {post : SX → Prop} {be : Nat → Nat} (ok : qa_ok p h bu w a) (hb : qa_Tb a (qa_B p bu) w be)
    (hp : ∀ W on, qa_Tab a (qa_B p bu) w h be on W → post (nI p, nI h, kn, nI W, qa_A bu, qa_A w, qa_A a, qa_A be, qa_A on)) :
    ∀ k on, k ≤ 4 → qa_Tn a (qa_B p bu) w on k → wX_learn_97 post (nI p) (nI h) kn (nI wn) (k + 1) (qa_dn k) (qa_A bu) (qa_A w) (qa_A a) (qa_A be) (qa_A on) := by
  intro k
  induction k with
  | zero =>
    intro on hk hT
    exact br_t (show (-1 : Int32) < 0 by decide) (qx_findWinners ok hb (fun W hW => hp W on ⟨hb, hT, hW⟩))
  | succ k ih =>
    intro on hk hT
    refine br_f (show ¬ nI k < 0 from nI_pos (by omega)) ⟨257, qx_l103 (k := k) ok (by omega) (fun on' hT' => ih on' (by omega) (fun i D h1 h2 h3 => ?_)) 256 0 on rfl ⟨fun i D h1 h2 h3 => hT i D h1 h2 h3, fun D hD => absurd hD (by omega)⟩⟩
    by_cases e : i = k
    · rw [e]; exact hT'.2 D h3
    · exact hT'.1 i D (by omega) h2 h3
theorem qx_l55 {post : SX → Prop} {J : Int32 → (Nat → Int32) → (Nat → Int32) → (Nat → Int32) → (Nat → Int32) → (Nat → Int32) → Prop} {k : Nat} {on : Nat → Nat} (ok : qa_ok p h bu w a) (hk : k < 4)
    (hJ : ∀ be, qa_T1 a (qa_B p bu) w be k 256 → J (nI (k + 1)) (qa_A bu) (qa_A w) (qa_A a) (qa_A be) (qa_A on)) :
    ∀ d j be, j + d = 256 → qa_T1 a (qa_B p bu) w be k j → wX_learn_55 post J (nI k) (nI p) (nI h) kn (nI wn) (d + 1) (nI j) (qa_A bu) (qa_A w) (qa_A a) (qa_A be) (qa_A on) := by
  intro d
  induction d with
  | zero =>
    intro j be hj hT
    obtain rfl : j = 256 := by omega
    exact br_t (nI_le (a := 256) (b := 256) (by omega) (by decide)) (nm_r (nI_1 k) (hJ be hT))
  | succ d ih =>
    intro j be hj hT
    refine br_f (nI_ge (b := 256) (by omega) (by decide)) (qx_bestF ok hk (by omega) (fun D hD => hT.1 k D (by omega) hD) (fun m hm => ?_))
    refine And.intro (by rw [qa_ix1]; exact vp_in_nI (by omega) (by decide)) (nm_r (qa_wrx ((k + 1) * 256 + j) m (qa_ix1 k j) rfl (by omega)) (nm_r (nI_1 j) (ih (j + 1) _ (by omega) ⟨fun i D h1 h2 => ?_, fun D hD => ?_⟩)))
    · rw [qa_up_n (by omega)]; exact hT.1 i D h1 h2
    · by_cases e : D = j
      · rw [e, qa_up_s]; exact hm
      · rw [qa_up_n (by omega)]; exact hT.2 D (by omega)
theorem qx_l48 {post : SX → Prop} {on : Nat → Nat} (ok : qa_ok p h bu w a)
    (hp : ∀ be, qa_Tb a (qa_B p bu) w be → ∃ n97 : Nat, wX_learn_97 post (nI p) (nI h) kn (nI wn) n97 3 (qa_A bu) (qa_A w) (qa_A a) (qa_A be) (qa_A on)) :
    ∀ d k be, k + d = 4 → qa_T1 a (qa_B p bu) w be k 0 → wX_learn_48 post (nI p) (nI h) kn (nI wn) (d + 1) (nI k) (qa_A bu) (qa_A w) (qa_A a) (qa_A be) (qa_A on) := by
  intro d
  induction d with
  | zero =>
    intro k be hk hT
    obtain rfl : k = 4 := by omega
    exact br_t (nI_le (a := 4) (b := 4) (by omega) (by decide)) (hp be hT.1)
  | succ d ih =>
    intro k be hk hT
    refine br_f (nI_ge (b := 4) (by omega) (by decide)) ⟨257, qx_l55 (k := k) ok (by omega) (fun be' hT' => ih (k + 1) be' (by omega) ⟨fun i D h1 h2 => ?_, fun D hD => absurd hD (by omega)⟩) 256 0 be rfl hT⟩
    by_cases e : i = k + 1
    · rw [e]; exact hT'.2 D h2
    · exact hT'.1 i D (by omega) h2
theorem qx_l15 {post : SX → Prop} (hp : ∀ be on, (∀ i, i < 256 → be i = 0 ∧ on (1024 + i) = 0) → ∃ n48 : Nat, wX_learn_48 post (nI p) (nI h) kn (nI wn) n48 0 (qa_A bu) (qa_A w) (qa_A a) (qa_A be) (qa_A on)) :
    ∀ d j be on, j + d = 256 → (∀ i, i < j → be i = 0 ∧ on (1024 + i) = 0) → wX_learn_15 post (nI p) (nI h) kn (nI wn) (d + 1) (nI j) (qa_A bu) (qa_A w) (qa_A a) (qa_A be) (qa_A on) := by
  intro d
  induction d with
  | zero =>
    intro j be on hj hT
    obtain rfl : j = 256 := by omega
    exact br_t (nI_le (a := 256) (b := 256) (by omega) (by decide)) (hp be on hT)
  | succ d ih =>
    intro j be on hj hT
    refine br_f (nI_ge (b := 256) (by omega) (by decide)) (And.intro (vp_in_nI (by omega) (by decide)) (nm_r (qa_wrx j 0 rfl rfl (by omega)) (And.intro (by rw [qa_ix4]; exact vp_in_nI (by omega) (by decide)) (nm_r (qa_wrx (1024 + j) 0 (qa_ix4 j) rfl (by omega)) (nm_r (nI_1 j) (ih (j + 1) _ _ (by omega) (fun i hi => ?_)))))))
    by_cases e : i = j
    · rw [e, qa_up_s, qa_up_s]; exact ⟨rfl, rfl⟩
    · rw [qa_up_n e, qa_up_n (by omega)]; exact hT i (by omega)
theorem qx_learn {post : SX → Prop} {be on : Nat → Nat} (ok : qa_ok p h bu w a) (hkn : kn = 0 ∨ (kn = 1 ∧ qa_Tab a (qa_B p bu) w h be on wn))
    (hp : ∀ wn be on, qa_Tab a (qa_B p bu) w h be on wn → post (nI p, nI h, 1, nI wn, qa_A bu, qa_A w, qa_A a, qa_A be, qa_A on)) : wpX_learn post (nI p, nI h, kn, nI wn, qa_A bu, qa_A w, qa_A a, qa_A be, qa_A on) := by
  rcases hkn with e | ⟨e, t⟩
  · refine br_t e ⟨257, qx_l15 (fun be on hz => ⟨5, ?_⟩) 256 0 be on rfl (fun i hi => absurd hi (by omega))⟩
    refine qx_l48 ok (fun be' hb => ⟨5, ?_⟩) 4 0 be rfl ⟨fun i D h1 h2 => ?_, fun D hD => absurd hD (by omega)⟩
    · refine qx_l97 ok hb (fun W on' t => hp W be' on' t) 4 on (by omega) (fun i D h1 h2 h3 => ?_)
      obtain rfl : i = 4 := by omega
      have z := (hz D h3).2
      rw [show 4 * 256 + D = 1024 + D by omega, z]
      exact qa_mx_none (fun c y => by have := ok.2.2.2.1 c; omega)
    · obtain rfl : i = 0 := by omega
      have z := (hz D h2).1
      rw [show 0 * 256 + D = D by omega, z]
      exact qa_mx_none (fun c y => by omega)
  · rw [e]
    exact br_f qa_10 (hp wn be on t)
end
end
section
/-! the component's sumWithout and sumLacking -/
section
variable {p h wn : Nat} {kn : Int32} {bu w a be on : Nat → Nat}
theorem qx_sw5 {post : Int32 → Prop} {k E : Nat} (ok : qa_ok p h bu w a) (hk : k < 4) (hE : E < 256)
    (hb : ∀ D, D < 256 → qa_Mx a (qa_B p bu) w (fun c => w c < k) D (be (k * 256 + D)))
    (ho : ∀ D, D < 256 → qa_Mx a (qa_B p bu) w (fun c => k + 1 ≤ w c) D (on ((k + 1) * 256 + D)))
    (hp : ∀ m, qa_Mx a (qa_B p bu) w (fun c => w c ≠ k) E m → post (nI m)) :
    ∀ d j m, j + d = 256 → (∃ S, qa_Ag (qa_B p bu) w (fun c => w c ≠ k) E S ∧ qa_ms a S = m) → (∀ D, D < j → qa_sub D E → be (k * 256 + D) + on ((k + 1) * 256 + qa_sd E D) ≤ m) → wX_sumWithout_5 post (nI k) (nI E) (nI p) (nI h) kn (nI wn) (qa_A bu) (qa_A w) (qa_A a) (qa_A be) (qa_A on) (d + 1) (nI m) (nI j) := by
  intro d
  induction d with
  | zero =>
    intro j m hj hS hD
    obtain rfl : j = 256 := by omega
    refine br_t (nI_le (a := 256) (b := 256) (by omega) (by decide)) (hp m ⟨hS, fun S q => ?_⟩)
    obtain ⟨D, S1, S2, s1, s2, s3, s4, s5⟩ := qa_split a hE q
    have l1 := (hb D s1).2 S1 s3
    have l2 := (ho (qa_sd E D) (qa_sdlt hE)).2 S2 s4
    have l3 := hD D s1 s2
    omega
  | succ d ih =>
    intro j m hj hS hD
    have j8 : j < 256 := by omega
    refine br_f (nI_ge (b := 256) j8 (by decide)) ?_
    by_cases sb : qa_sub j E
    · refine br_t ((qa_an0 j8).mpr sb) ?_
      rw [qa_ix, qa_an hE, qa_ix1]
      have l := qa_sdlt (y := j) hE
      refine And.intro (vp_in_nI (by omega) (by decide)) (And.intro (vp_in_nI (by omega) (by decide)) ?_)
      rw [qa_rd (k * 256 + j) rfl (by omega), qa_rd ((k + 1) * 256 + qa_sd E j) rfl (by omega), nI_add]
      have b1 := qa_mxb ok.2.2.2.2.1 (hb j j8)
      have b2 := qa_mxb ok.2.2.2.2.1 (ho _ l)
      have b3 : m < 131072 := by
        obtain ⟨S, q1, q2⟩ := hS
        rw [← q2]; exact qa_msb ok.2.2.2.2.1 S
      refine nm_e (pk_le (be (k * 256 + j) + on ((k + 1) * 256 + qa_sd E j)) m (fun le => nm_r (nI_1 j) (ih (j + 1) m (by omega) hS (fun D h1 h2 => ?_))) (fun lt => nm_r (nI_1 j) (ih (j + 1) _ (by omega) ?_ (fun D h1 h2 => ?_))) rfl rfl (by omega) (by omega))
      · by_cases e : D = j
        · rw [e]; exact le
        · exact hD D (by omega) h2
      · obtain ⟨S1, q1, q2⟩ := (hb j j8).1
        obtain ⟨S2, q3, q4⟩ := (ho _ l).1
        obtain ⟨n1, n2⟩ := qa_join (a := a) hE j8 sb q1 q3
        exact ⟨_, n1, by rw [n2, q2, q4]⟩
      · by_cases e : D = j
        · rw [e]; exact Nat.le_refl _
        · have := hD D (by omega) h2
          omega
    · refine br_f (fun y => sb ((qa_an0 j8).mp y)) (nm_r (nI_1 j) (ih (j + 1) m (by omega) hS (fun D h1 h2 => ?_)))
      exact hD D (by
        have n : D ≠ j := fun e => sb (by rw [← e]; exact h2)
        omega) h2
theorem qx_sw {post : Int32 → Prop} {k E : Nat} (ok : qa_ok p h bu w a) (hb : qa_Tb a (qa_B p bu) w be) (ho : qa_Tn a (qa_B p bu) w on 0) (hk : k < 4) (hE : E < 256)
    (hp : ∀ m, qa_Mx a (qa_B p bu) w (fun c => w c ≠ k) E m → post (nI m)) : wpX_sumWithout post (nI p, nI h, kn, nI wn, qa_A bu, qa_A w, qa_A a, qa_A be, qa_A on) (nI k) (nI E) :=
  ⟨257, qx_sw5 ok hk hE (fun D hD => hb k D (by omega) hD) (fun D hD => ho (k + 1) D (by omega) (by omega) hD) hp 256 0 0 rfl ⟨0, qa_Ag0, qa_ms0⟩ (fun D hD => absurd hD (by omega))⟩
theorem qx_sl23 {post : Int32 → Prop} {k E b : Nat} (ok : qa_ok p h bu w a) (hb : qa_Tb a (qa_B p bu) w be) (ho : qa_Tn a (qa_B p bu) w on 0) (hk : k < 4) (hE : E < 256) (b8 : b < 8) (hw : w b = k)
    (hp : ∀ m, qa_Mx a (qa_B p bu) w (fun c => c ≠ b) E m → post (nI m)) :
    ∀ d j m, j + d = 8 → qa_Mx a (qa_B p bu) w (fun c => w c ≠ k ∨ (w c = k ∧ c ≠ b ∧ c < j)) E m → wX_sumLacking_23 post (nI b) (nI E) (nI k) (nI p) (nI h) kn (nI wn) (qa_A bu) (qa_A w) (qa_A a) (qa_A be) (qa_A on) (d + 1) (nI m) (nI j) := by
  intro d
  induction d with
  | zero =>
    intro j m hj hI
    obtain rfl : j = 8 := by omega
    refine br_t (nI_le (a := 8) (b := 8) (by omega) (by decide)) (hp m (qa_mx_congr (fun c hc => ?_) hI))
    constructor
    · rintro (z | z)
      · exact fun e => z (by rw [e]; exact hw)
      · exact z.2.1
    · intro z
      by_cases y : w c = k
      · exact Or.inr ⟨y, z, hc⟩
      · exact Or.inl y
  | succ d ih =>
    intro j m hj hI
    have j8 : j < 8 := by omega
    have sk : (0 < qa_B p bu j → qa_sub (qa_B p bu j) E → j ≠ b → w j ≠ k) → wX_sumLacking_23 post (nI b) (nI E) (nI k) (nI p) (nI h) kn (nI wn) (qa_A bu) (qa_A w) (qa_A a) (qa_A be) (qa_A on) (d + 1) (nI m) (nI (j + 1)) := fun z =>
      ih (j + 1) m (by omega) (qa_skip (j := j) (fun c y => y.elim Or.inl (fun q => Or.inr ⟨q.1, q.2.1, by omega⟩)) (fun c n y => y.elim Or.inl (fun q => Or.inr ⟨q.1, q.2.1, by omega⟩)) (fun y1 y2 y => y.elim Or.inl (fun q => absurd q.1 (z y1 y2 q.2.1))) hI)
    refine br_f (nI_ge (b := 8) j8 (by decide)) ?_
    refine pk_eq j b (fun e => nm_r (nI_1 j) (sk (fun _ _ n => absurd e n))) (fun jb => ?_) rfl rfl (by omega) (by omega)
    refine qx_has ok.1 j8 (fun z => ?_) (fun z => ?_)
    · exact br_t rfl (nm_r (nI_1 j) (sk (fun y => absurd (qa_Bp y) (fun q => qa_tf q z))))
    · have Bj := qa_B1 (bu := bu) z
      refine br_f qa_10 (And.intro (vp_in_nI j8 (by decide)) ?_)
      rw [qa_r8 j8, qa_r8 j8]
      by_cases wk : w j = k
      · refine br_t (congrArg nI wk) (And.intro (vp_in_nI j8 (by decide)) ?_)
        by_cases sb : qa_sub (bu j) E
        · refine br_t ((qa_an0 (ok.2.2.1 j)).mpr sb) (qx_ma j8 (And.intro (vp_in_nI j8 (by decide)) ?_))
          rw [qa_an hE]
          refine qx_sw ok hb ho hk (qa_sdlt hE) (fun m' hm' => nm_r (nI_add _ _) ?_)
          have st := qa_step (j := j) (R' := fun c => w c ≠ k ∨ (w c = k ∧ c ≠ b ∧ c < j + 1)) hE j8 (by rw [Bj]; exact ok.2.2.2.2.2 j z) (by rw [Bj]; exact sb) wk (fun c y => y) (fun c y => Or.inl y) (fun c y n => n) (fun c y => y.elim Or.inl (fun q => Or.inr ⟨q.1, q.2.1, by omega⟩)) (fun c n y => y.elim Or.inl (fun q => Or.inr ⟨q.1, q.2.1, by omega⟩)) (Or.inr ⟨wk, jb, by omega⟩) hI (by rw [Bj]; exact hm')
          have b1 := qa_mxb ok.2.2.2.2.1 hI
          have b2 := qa_mxb ok.2.2.2.2.1 hm'
          have b3 := qa_mab ok.2.2.2.2.1 j
          exact pk_le (qa_ma a j + m') m (fun le => nm_r (nI_1 j) (ih (j + 1) m (by omega) (st.1 le))) (fun lt => nm_r (nI_1 j) (ih (j + 1) _ (by omega) (st.2 lt))) rfl rfl (by omega) (by omega)
        · exact br_f (fun y => sb ((qa_an0 (ok.2.2.1 j)).mp y)) (nm_r (nI_1 j) (sk (fun _ y => absurd (by rw [← Bj]; exact y) sb)))
      · have w4 := ok.2.2.2.1 j
        exact br_f (fun y => wk ((nI_eq (by omega) (by omega)).mp y)) (nm_r (nI_1 j) (sk (fun _ _ _ => wk)))
theorem qx_sl {post : Int32 → Prop} {b : Nat} (ok : qa_ok p h bu w a) (hb : qa_Tb a (qa_B p bu) w be) (ho : qa_Tn a (qa_B p bu) w on 0) (b8 : b < 8)
    (hp : ∀ m, qa_Mx a (qa_B p bu) w (fun c => c ≠ b) (qa_sd 255 h) m → post (nI m)) : wpX_sumLacking post (nI p, nI h, kn, nI wn, qa_A bu, qa_A w, qa_A a, qa_A be, qa_A on) (nI b) := by
  show vp_in (nI b) 8 ∧ _
  rw [qa_off]
  refine And.intro (vp_in_nI b8 (by decide)) (nm_r (qa_r8 b8) (qx_sw ok hb ho (ok.2.2.2.1 b) (qa_offlt h) (fun m hm => ⟨9, ?_⟩)))
  exact qx_sl23 ok hb ho (ok.2.2.2.1 b) (qa_offlt h) b8 rfl hp 8 0 m rfl (qa_mx_congr (fun c hc => ⟨Or.inl, fun z => z.elim id (fun y => absurd y.2.2 (by omega))⟩) hm)
end
end
section
/-! the reference's own methods: is, allocates, work -/
noncomputable def qa_bo (P : Prop) : Int32 := @ite _ P (Classical.propDecidable P) 1 0
theorem qa_bo_t {P : Prop} (h : P) : qa_bo P = 1 := by unfold qa_bo; exact if_pos h
theorem qa_bo_f {P : Prop} (h : ¬ P) : qa_bo P = 0 := by unfold qa_bo; exact if_neg h
theorem qa_bo_c {P Q : Prop} (h : P ↔ Q) : qa_bo P = qa_bo Q := congrArg qa_bo (propext h)
theorem qa_bo_n (P : Prop) : narrow .boolean (.int (qa_bo P)) = .int (qa_bo P) := by
  by_cases h : P
  · rw [qa_bo_t h]; rfl
  · rw [qa_bo_f h]; rfl
theorem qa_bo_v (P : Prop) : vp_nar .boolean (qa_bo P) = qa_bo P := by
  by_cases h : P
  · rw [qa_bo_t h]; rfl
  · rw [qa_bo_f h]; rfl
theorem qa_bo_0 {P : Prop} : qa_bo P = 0 ↔ ¬ P := ⟨fun z h => by rw [qa_bo_t h] at z; exact qa_10 z, qa_bo_f⟩
/-- the reference's condition on the bids below b, and in the course of bid b -/
def qa_K (h : Nat) (B w : Nat → Nat) (S b : Nat) : Prop := ∀ i, i < b → S.testBit i = true → (0 < B i ∧ qa_dis (B i) h) ∧ ∀ c, c < i → S.testBit c = true → qa_dis (B i) (B c) ∧ w i ≠ w c
def qa_K2 (h : Nat) (B w : Nat → Nat) (S b c : Nat) : Prop := qa_K h B w S b ∧ (S.testBit b = true → (0 < B b ∧ qa_dis (B b) h) ∧ ∀ i, i < c → S.testBit i = true → qa_dis (B b) (B i) ∧ w b ≠ w i)
theorem qa_K2K {h : Nat} {B w : Nat → Nat} {S b : Nat} : qa_K2 h B w S b b ↔ qa_K h B w S (b + 1) := by
  constructor
  · intro z i hi hs
    by_cases e : i = b
    · rw [e] at hs ⊢; exact z.2 hs
    · exact z.1 i (by omega) hs
  · intro z
    exact ⟨fun i hi hs => z i (by omega) hs, fun hs => z b (by omega) hs⟩
theorem qa_K8 {h : Nat} {B w : Nat → Nat} {S : Nat} (hB : ∀ j, B j < 256) (hS : S < 256) : qa_K h B w S 8 ↔ qa_Al B w (qa_sd 255 h) S := by
  constructor
  · intro z
    refine ⟨hS, fun b hb => ?_⟩
    have q := z b (qa_b8 hS hb) hb
    refine ⟨⟨q.1.1, (qa_subh (hB b)).mpr q.1.2⟩, fun c hc n => ?_⟩
    rcases Nat.lt_or_ge c b with l | l
    · exact q.2 c l hc
    · have y := (z c (qa_b8 hS hc) hc).2 b (by omega) hb
      exact ⟨qa_dissym y.1, Ne.symm y.2⟩
  · intro z i hi hs
    have q := z.2 i hs
    exact ⟨⟨q.1.1, (qa_subh (hB i)).mp q.1.2⟩, fun c hc hs' => q.2 c hs' (by omega)⟩
section
variable {h : Nat} {B w a : Nat → Nat} {fi : Nat → Int32}
theorem qy_is {post : Int32 → Prop} {b : Nat} (hB : ∀ j, B j < 256) (hb : b < 8) (h0 : B b = 0 → post 0) (h1 : 0 < B b → post 1) : wpY_is post (nI h, qa_A B, qa_A w, qa_A a, fi) (nI b) := by
  refine br_f (nI_pos (by omega)) (br_f (nI_ge (b := 8) hb (by decide)) (And.intro (vp_in_nI hb (by decide)) ?_))
  rw [qa_r8 hb]
  have := hB b
  exact pk_le (B b) 0 (fun z => h0 (by omega)) (fun z => h1 z) rfl rfl (by omega) (by omega)
theorem qy_isN {post : Int32 → Prop} {x : Int32} (hx : x < 0 ∨ nI 8 ≤ x) (h0 : post 0) : wpY_is post (nI h, qa_A B, qa_A w, qa_A a, fi) x := by
  refine br_c (fun _ => h0) (fun z => ?_)
  exact br_t (hx.resolve_left z) h0
theorem qy_92 {post : Int32 → Prop} {J4 J66 : Int32 → Int32 → Prop} {x1 x4 : Int32} {P Z : Prop} {b c : Nat} (hB : ∀ j, B j < 256) (hw : ∀ j, w j < 4) (b8 : b < 8) (c8 : c < 8)
    (hJ : J66 (qa_bo (P ∧ (Z → qa_dis (B b) (B c) ∧ w b ≠ w c))) (nI (c + 1))) : wY_allocates_92 post J4 J66 x1 (qa_bo P) (nI b) x4 (nI c) (qa_bo Z) (nI h) (qa_A B) (qa_A w) (qa_A a) fi := by
  by_cases hP : P
  · refine br_f (by rw [qa_bo_t hP]; exact qa_10) ?_
    by_cases hZ : Z
    · refine br_f (by rw [qa_bo_t hZ]; exact qa_10) (And.intro (vp_in_nI b8 (by decide)) (And.intro (vp_in_nI c8 (by decide)) ?_))
      rw [qa_r8 b8, qa_r8 c8, qa_r8 b8, qa_r8 c8]
      by_cases hd : qa_dis (B b) (B c)
      · refine br_t ((qa_and0 (hB b)).mpr hd) (And.intro (vp_in_nI b8 (by decide)) (And.intro (vp_in_nI c8 (by decide)) ?_))
        have w1 := hw b
        have w2 := hw c
        refine pk_eq (w b) (w c) (fun e => nm_r (nI_1 c) ?_) (fun ne => nm_r (nI_1 c) ?_) rfl rfl (by omega) (by omega)
        · rw [qa_bo_f (fun q => (q.2 hZ).2 e)] at hJ; exact hJ
        · rw [qa_bo_t ⟨hP, fun _ => ⟨hd, ne⟩⟩] at hJ; exact hJ
      · refine br_f (fun y => hd ((qa_and0 (hB b)).mp y)) (nm_r (nI_1 c) ?_)
        rw [qa_bo_f (fun q => hd (q.2 hZ).1)] at hJ; exact hJ
    · refine br_t (qa_bo_f hZ) (nm_r (nI_1 c) ?_)
      rw [qa_bo_t ⟨hP, fun q => absurd q hZ⟩] at hJ; exact hJ
  · refine br_t (qa_bo_f hP) (nm_r (nI_1 c) ?_)
    rw [qa_bo_f (fun q => hP q.1)] at hJ; exact hJ
theorem qy_66 {post : Int32 → Prop} {J4 : Int32 → Int32 → Prop} {S b : Nat} (hB : ∀ j, B j < 256) (hw : ∀ j, w j < 4) (hS : S < 256) (b8 : b < 8)
    (hJ : J4 (qa_bo (qa_K h B w S (b + 1))) (nI (b + 1))) :
    ∀ d c, c + d = b → wY_allocates_66 post J4 (nI S) (nI b) (qa_bo (S.testBit b = true)) (nI h) (qa_A B) (qa_A w) (qa_A a) fi (d + 1) (qa_bo (qa_K2 h B w S b c)) (nI c) := by
  intro d
  induction d with
  | zero =>
    intro c hc
    obtain rfl : c = b := by omega
    refine br_t (nI_le (Nat.le_refl c) (by omega)) (nm_r (nI_1 c) ?_)
    rw [qa_bo_c qa_K2K]
    exact hJ
  | succ d ih =>
    intro c hc
    have I := ih (c + 1) (by omega)
    have K : ∀ Z : Prop, (Z ↔ (S.testBit b = true ∧ S.testBit c = true)) → wY_allocates_92 post J4 (wY_allocates_66 post J4 (nI S) (nI b) (qa_bo (S.testBit b = true)) (nI h) (qa_A B) (qa_A w) (qa_A a) fi (d + 1)) (nI S) (qa_bo (qa_K2 h B w S b c)) (nI b) (qa_bo (S.testBit b = true)) (nI c) (qa_bo Z) (nI h) (qa_A B) (qa_A w) (qa_A a) fi := fun Z hZ => by
      have e : (qa_K2 h B w S b c ∧ (Z → qa_dis (B b) (B c) ∧ w b ≠ w c)) ↔ qa_K2 h B w S b (c + 1) := by
        constructor
        · intro z
          refine ⟨z.1.1, fun hs => ⟨(z.1.2 hs).1, fun i hi hs' => ?_⟩⟩
          by_cases e : i = c
          · rw [e] at hs' ⊢; exact z.2 (hZ.mpr ⟨hs, hs'⟩)
          · exact (z.1.2 hs).2 i (by omega) hs'
        · intro z
          exact ⟨⟨z.1, fun hs => ⟨(z.2 hs).1, fun i hi hs' => (z.2 hs).2 i (by omega) hs'⟩⟩, fun y => (z.2 (hZ.mp y).1).2 c (by omega) (hZ.mp y).2⟩
      refine qy_92 hB hw b8 (by omega) ?_
      rw [qa_bo_c e]
      exact I
    have K0 : ¬ (S.testBit b = true ∧ S.testBit c = true) → wY_allocates_91 post J4 (wY_allocates_66 post J4 (nI S) (nI b) (qa_bo (S.testBit b = true)) (nI h) (qa_A B) (qa_A w) (qa_A a) fi (d + 1)) (nI S) (qa_bo (qa_K2 h B w S b c)) (nI b) (qa_bo (S.testBit b = true)) (nI c) (nI h) (qa_A B) (qa_A w) (qa_A a) fi := fun n => by
      have k := K False ⟨fun f => f.elim, n⟩
      rw [qa_bo_f (P := False) id] at k
      exact k
    refine br_f (nI_ge (by omega) (by omega)) ?_
    by_cases sb : S.testBit b = true
    · refine br_f (by rw [qa_bo_t sb]; exact qa_10) ?_
      by_cases sc : S.testBit c = true
      · have k := K True ⟨fun _ => ⟨sb, sc⟩, fun _ => trivial⟩
        rw [qa_bo_t (P := True) trivial] at k
        exact br_t ((qa_bit1 (by omega) (by omega)).mpr sc) k
      · exact br_f (qa_bitn1 (by omega) (by omega) (qa_nt sc)) (K0 (fun y => sc y.2))
    · exact br_t (qa_bo_f sb) (K0 (fun y => sb y.1))
theorem qy_24 {post : Int32 → Prop} {J4 : Int32 → Int32 → Prop} {S b : Nat} (hB : ∀ j, B j < 256) (hw : ∀ j, w j < 4) (hS : S < 256) (b8 : b < 8)
    (hJ : J4 (qa_bo (qa_K h B w S (b + 1))) (nI (b + 1))) : wY_allocates_24 post J4 (nI S) (qa_bo (qa_K h B w S b)) (nI b) (qa_bo (S.testBit b = true)) (nI h) (qa_A B) (qa_A w) (qa_A a) fi := by
  have L := qy_66 (post := post) (fi := fi) (a := a) hB hw hS b8 hJ b 0 (by omega)
  have L0 : ¬ qa_K2 h B w S b 0 → ∃ n66 : Nat, wY_allocates_66 post J4 (nI S) (nI b) (qa_bo (S.testBit b = true)) (nI h) (qa_A B) (qa_A w) (qa_A a) fi n66 0 0 := fun n => by
    rw [qa_bo_f n] at L; exact ⟨_, L⟩
  have L1 : qa_K2 h B w S b 0 → ∃ n66 : Nat, wY_allocates_66 post J4 (nI S) (nI b) (qa_bo (S.testBit b = true)) (nI h) (qa_A B) (qa_A w) (qa_A a) fi n66 1 0 := fun n => by
    rw [qa_bo_t n] at L; exact ⟨_, L⟩
  by_cases hK : qa_K h B w S b
  · refine br_f (by rw [qa_bo_t hK]; exact qa_10) ?_
    by_cases sb : S.testBit b = true
    · refine br_f (by rw [qa_bo_t sb]; exact qa_10) (qy_is hB b8 (fun z => ?_) (fun z => ?_))
      · exact br_t rfl (L0 (fun q => by have := (q.2 sb).1.1; omega))
      · refine br_f qa_10 (And.intro (vp_in_nI b8 (by decide)) ?_)
        rw [qa_r8 b8]
        by_cases hd : qa_dis (B b) h
        · exact br_t ((qa_and0 (hB b)).mpr hd) (L1 ⟨hK, fun _ => ⟨⟨z, hd⟩, fun i hi => absurd hi (by omega)⟩⟩)
        · exact br_f (fun y => hd ((qa_and0 (hB b)).mp y)) (L0 (fun q => hd (q.2 sb).1.2))
    · exact br_t (qa_bo_f sb) (L1 ⟨hK, fun q => absurd q sb⟩)
  · exact br_t (qa_bo_f hK) (L0 (fun q => hK q.1))
theorem qy_al4 {post : Int32 → Prop} {S : Nat} (hB : ∀ j, B j < 256) (hw : ∀ j, w j < 4) (hS : S < 256) (hp : post (qa_bo (qa_K h B w S 8))) :
    ∀ d b, b + d = 8 → wY_allocates_4 post (nI S) (nI h) (qa_A B) (qa_A w) (qa_A a) fi (d + 1) (qa_bo (qa_K h B w S b)) (nI b) := by
  intro d
  induction d with
  | zero =>
    intro b hb
    obtain rfl : b = 8 := by omega
    exact br_t (nI_le (a := 8) (b := 8) (by omega) (by decide)) (And.intro (qa_bo_n _) hp)
  | succ d ih =>
    intro b hb
    have b8 : b < 8 := by omega
    have k := qy_24 (post := post) (fi := fi) (a := a) hB hw hS b8 (ih (b + 1) (by omega))
    refine br_f (nI_ge (b := 8) b8 (by decide)) ?_
    by_cases sb : S.testBit b = true
    · rw [qa_bo_t sb] at k
      exact br_t ((qa_bit1 (by omega) (by omega)).mpr sb) k
    · rw [qa_bo_f sb] at k
      exact br_f (qa_bitn1 (by omega) (by omega) (qa_nt sb)) k
theorem qy_al {post : Int32 → Prop} {S : Nat} (hB : ∀ j, B j < 256) (hw : ∀ j, w j < 4) (hS : S < 256) (hp : post (qa_bo (qa_Al B w (qa_sd 255 h) S))) : wpY_allocates post (nI h, qa_A B, qa_A w, qa_A a, fi) (nI S) := by
  rw [← qa_bo_c (qa_K8 hB hS)] at hp
  have L := qy_al4 (fi := fi) (a := a) hB hw hS hp 8 0 rfl
  rw [qa_bo_t (P := qa_K h B w S 0) (fun i hi => absurd hi (by omega))] at L
  exact ⟨9, L⟩
end
section
variable {h : Nat} {B w a : Nat → Nat}
theorem qy_work2 {post : SY → Prop} (hB : ∀ j, B j < 256) (hw : ∀ j, w j < 4) (hp : ∀ fi : Nat → Int32, (∀ S, S < 256 → fi S = qa_bo (qa_Al B w (qa_sd 255 h) S)) → post (nI h, qa_A B, qa_A w, qa_A a, fi)) :
    ∀ d j fi, j + d = 256 → (∀ S, S < j → fi S = qa_bo (qa_Al B w (qa_sd 255 h) S)) → wY_work_2 post (nI h) (d + 1) (nI j) (qa_A B) (qa_A w) (qa_A a) fi := by
  intro d
  induction d with
  | zero =>
    intro j fi hj hf
    obtain rfl : j = 256 := by omega
    exact br_t (nI_le (a := 256) (b := 256) (by omega) (by decide)) (hp fi hf)
  | succ d ih =>
    intro j fi hj hf
    have j8 : j < 256 := by omega
    refine br_f (nI_ge (b := 256) j8 (by decide)) (qy_al hB hw j8 (And.intro (vp_in_nI j8 (by decide)) ?_))
    rw [qa_bo_v, nI_clamp (by omega)]
    refine nm_e (nm_r (nI_1 j) (ih (j + 1) _ (by omega) (fun S hS => ?_)))
    by_cases e : S = j
    · rw [e]; exact pk_us
    · rw [pk_un e]; exact hf S (by omega)
theorem qy_work {post : SY → Prop} {fi : Nat → Int32} (hB : ∀ j, B j < 256) (hw : ∀ j, w j < 4) (hp : ∀ fi : Nat → Int32, (∀ S, S < 256 → fi S = qa_bo (qa_Al B w (qa_sd 255 h) S)) → post (nI h, qa_A B, qa_A w, qa_A a, fi)) : wpY_work post (nI h, qa_A B, qa_A w, qa_A a, fi) :=
  ⟨257, qy_work2 hB hw hp 256 0 fi rfl (fun S hS => absurd hS (by omega))⟩
end
end
section
/-! the reference's sum, before, best, of, bids -/
/-- the sets that best looks at -/
def qa_Cd (F : Nat → Prop) (mu ne S : Nat) : Prop := S < 256 ∧ F S ∧ qa_sub mu S ∧ qa_dis ne S
section
variable {h : Nat} {B w a : Nat → Nat} {fi : Nat → Int32}
theorem qy_sum4 {post : Int32 → Prop} {S : Nat} (hS : S < 256) :
    ∀ d j acc, j + d = 8 → post (nI (acc + qa_sg a S d)) → wY_sum_4 post (nI S) (nI h) (qa_A B) (qa_A w) (qa_A a) fi (d + 1) (nI acc) (nI j) := by
  intro d
  induction d with
  | zero =>
    intro j acc hj hp
    obtain rfl : j = 8 := by omega
    exact br_t (nI_le (a := 8) (b := 8) (by omega) (by decide)) hp
  | succ d ih =>
    intro j acc hj hp
    have j8 : j < 8 := by omega
    have e : acc + qa_sg a S (d + 1) = acc + qa_t a S j + qa_sg a S d := by
      show acc + (qa_t a S (7 - d) + qa_sg a S d) = _
      rw [show 7 - d = j by omega]
      omega
    rw [e] at hp
    refine br_f (nI_ge (b := 8) j8 (by decide)) ?_
    by_cases sb : S.testBit j = true
    · rw [qa_tt sb] at hp
      exact br_t ((qa_bit1 (by omega) (by omega)).mpr sb) (And.intro (vp_in_nI j8 (by decide)) (nm_r (e' := nI (acc + a j)) (by rw [qa_r8 j8, nI_add]) (nm_r (nI_1 j) (ih (j + 1) _ (by omega) hp))))
    · rw [qa_tz sb] at hp
      exact br_f (qa_bitn1 (by omega) (by omega) (qa_nt sb)) (nm_r (nI_add acc 0) (nm_r (nI_1 j) (ih (j + 1) _ (by omega) hp)))
theorem qy_sum {post : Int32 → Prop} {S : Nat} (hS : S < 256) (hp : post (nI (qa_sm a S))) : wpY_sum post (nI h, qa_A B, qa_A w, qa_A a, fi) (nI S) :=
  ⟨9, qy_sum4 hS 8 0 0 rfl (by rw [Nat.zero_add]; exact hp)⟩
theorem qy_bf34 {post : Int32 → Prop} {S T : Nat} (hS : S < 256) (hT : T < 256) :
    ∀ d j, j + d = 8 → (qa_sg qa_rv T d < qa_sg qa_rv S d → post 1) → (¬ qa_sg qa_rv T d < qa_sg qa_rv S d → post 0) → wY_before_34 post (nI S) (nI T) (nI h) (qa_A B) (qa_A w) (qa_A a) fi (d + 1) (nI j) := by
  intro d
  induction d with
  | zero =>
    intro j hj h1 h0
    obtain rfl : j = 8 := by omega
    exact br_t (nI_le (a := 8) (b := 8) (by omega) (by decide)) (h0 (Nat.lt_irrefl _))
  | succ d ih =>
    intro j hj h1 h0
    have j8 : j < 8 := by omega
    have l1 := qa_sg_lt S d (by omega)
    have l2 := qa_sg_lt T d (by omega)
    have ej : 7 - d = j := by omega
    refine br_f (nI_ge (b := 8) j8 (by decide)) ?_
    by_cases s : S.testBit j = true
    · have es := qa_sg_1 (S := S) (d := d) (by omega) (by rw [ej]; exact s)
      have vs := (qa_bit1 (S := S) (b := j) (by omega) (by omega)).mpr s
      by_cases t : T.testBit j = true
      · have et := qa_sg_1 (S := T) (d := d) (by omega) (by rw [ej]; exact t)
        have vt := (qa_bit1 (S := T) (b := j) (by omega) (by omega)).mpr t
        exact br_t (vs.trans vt.symm) (nm_r (nI_1 j) (ih (j + 1) (by omega) (fun z => h1 (by omega)) (fun z => h0 (by omega))))
      · have et := qa_sg_0 (S := T) (d := d) (by rw [ej]; exact qa_nt t)
        have vt := (qa_bit0 (S := T) (b := j) (by omega) (by omega)).mpr (qa_nt t)
        exact br_f (fun z => qa_10 (vs.symm.trans (z.trans vt))) (br_t vs (h1 (by omega)))
    · have es := qa_sg_0 (S := S) (d := d) (by rw [ej]; exact qa_nt s)
      have vs := (qa_bit0 (S := S) (b := j) (by omega) (by omega)).mpr (qa_nt s)
      by_cases t : T.testBit j = true
      · have et := qa_sg_1 (S := T) (d := d) (by omega) (by rw [ej]; exact t)
        have vt := (qa_bit1 (S := T) (b := j) (by omega) (by omega)).mpr t
        exact br_f (fun z => qa_10 (vt.symm.trans (z.symm.trans vs))) (br_f (fun z => qa_10 (z.symm.trans vs)) (h0 (by omega)))
      · have et := qa_sg_0 (S := T) (d := d) (by rw [ej]; exact qa_nt t)
        have vt := (qa_bit0 (S := T) (b := j) (by omega) (by omega)).mpr (qa_nt t)
        exact br_t (vs.trans vt.symm) (nm_r (nI_1 j) (ih (j + 1) (by omega) (fun z => h1 (by omega)) (fun z => h0 (by omega))))
theorem qy_before {post : Int32 → Prop} {S T : Nat} (ha : ∀ j, a j ≤ 50) (hS : S < 256) (hT : T < 256) (h1 : qa_ms a T < qa_ms a S → post 1) (h0 : ¬ qa_ms a T < qa_ms a S → post 0) : wpY_before post (nI h, qa_A B, qa_A w, qa_A a, fi) (nI S) (nI T) := by
  have b1 := qa_smb ha S
  have b2 := qa_smb ha T
  refine qy_sum hS (qy_sum hT ?_)
  refine pk_eq (qa_sm a S) (qa_sm a T) (fun e => ⟨9, ?_⟩) (fun ne => ?_) rfl rfl (by omega) (by omega)
  · have q := qa_ms_lt' e
    exact qy_bf34 hS hT 8 0 rfl (fun z => h1 (q.mpr z)) (fun z => h0 (fun y => z (q.mp y)))
  · have q := qa_ms_lt hS hT ne
    exact pk_le (qa_sm a S) (qa_sm a T) (fun z => h0 (fun y => by have := q.mp y; omega)) (fun z => h1 (q.mpr z)) rfl rfl (by omega) (by omega)
theorem qy_best5 {post : Int32 → Prop} {F : Nat → Prop} {mu ne : Nat} (ha : ∀ j, a j ≤ 50) (hf : ∀ S, S < 256 → fi S = qa_bo (F S)) (hmu : mu < 256) (hne : ne < 256)
    (h0 : (∀ S, ¬ qa_Cd F mu ne S) → post (-1)) (h1 : ∀ T, qa_Cd F mu ne T → (∀ S, qa_Cd F mu ne S → qa_ms a S ≤ qa_ms a T) → post (nI T)) :
    ∀ d j x, j + d = 256 → ((x = -1 ∧ ∀ S, S < j → ¬ qa_Cd F mu ne S) ∨ ∃ T, x = nI T ∧ qa_Cd F mu ne T ∧ ∀ S, S < j → qa_Cd F mu ne S → qa_ms a S ≤ qa_ms a T) → wY_best_5 post (nI mu) (nI ne) (nI h) (qa_A B) (qa_A w) (qa_A a) fi (d + 1) x (nI j) := by
  intro d
  induction d with
  | zero =>
    intro j x hj hI
    obtain rfl : j = 256 := by omega
    refine br_t (nI_le (a := 256) (b := 256) (by omega) (by decide)) ?_
    rcases hI with ⟨rfl, n⟩ | ⟨T, rfl, c, g⟩
    · exact h0 (fun S q => n S q.1 q)
    · exact h1 T c (fun S q => g S q.1 q)
  | succ d ih =>
    intro j x hj hI
    have j8 : j < 256 := by omega
    have sk : ¬ qa_Cd F mu ne j → wY_best_5 post (nI mu) (nI ne) (nI h) (qa_A B) (qa_A w) (qa_A a) fi (d + 1) x (nI (j + 1)) := fun nc => by
      refine ih (j + 1) x (by omega) ?_
      have ex : ∀ S, S < j + 1 → qa_Cd F mu ne S → S < j := fun S hS q => by
        have n : S ≠ j := fun e => nc (by rw [← e]; exact q)
        omega
      rcases hI with ⟨e, n⟩ | ⟨T, e, c, g⟩
      · exact Or.inl ⟨e, fun S hS q => n S (ex S hS q) q⟩
      · exact Or.inr ⟨T, e, c, fun S hS q => g S (ex S hS q) q⟩
    refine br_f (nI_ge (b := 256) j8 (by decide)) (And.intro (vp_in_nI j8 (by decide)) ?_)
    rw [nI_clamp (by omega), hf j j8]
    by_cases hF : F j
    · refine br_f (by rw [qa_bo_t hF]; exact qa_10) ?_
      by_cases hs : qa_sub mu j
      · refine br_t ((qa_an0 hmu).mpr hs) ?_
        by_cases hd : qa_dis ne j
        · refine br_t ((qa_and0 hne).mpr hd) ?_
          have C : qa_Cd F mu ne j := ⟨j8, hF, hs, hd⟩
          rcases hI with ⟨rfl, n⟩ | ⟨T, rfl, c, g⟩
          · refine br_t (by decide) (nm_r (nI_1 j) (ih (j + 1) _ (by omega) (Or.inr ⟨j, rfl, C, fun S hS q => ?_⟩)))
            by_cases e : S = j
            · rw [e]; exact Nat.le_refl _
            · exact absurd q (n S (by omega))
          · have T8 := c.1
            refine br_f (nI_pos (by omega)) (qy_before ha j8 T8 (fun lt => ?_) (fun nl => ?_))
            · refine br_f qa_10 (nm_r (nI_1 j) (ih (j + 1) _ (by omega) (Or.inr ⟨j, rfl, C, fun S hS q => ?_⟩)))
              by_cases e : S = j
              · rw [e]; exact Nat.le_refl _
              · have := g S (by omega) q
                omega
            · refine br_t rfl (nm_r (nI_1 j) (ih (j + 1) _ (by omega) (Or.inr ⟨T, rfl, c, fun S hS q => ?_⟩)))
              by_cases e : S = j
              · rw [e]; omega
              · exact g S (by omega) q
        · exact br_f (fun y => hd ((qa_and0 hne).mp y)) (nm_r (nI_1 j) (sk (fun q => hd q.2.2.2)))
      · exact br_f (fun y => hs ((qa_an0 hmu).mp y)) (nm_r (nI_1 j) (sk (fun q => hs q.2.2.1)))
    · exact br_t (qa_bo_f hF) (nm_r (nI_1 j) (sk (fun q => hF q.2.1)))
theorem qy_best {post : Int32 → Prop} {F : Nat → Prop} {mu ne : Nat} (ha : ∀ j, a j ≤ 50) (hf : ∀ S, S < 256 → fi S = qa_bo (F S)) (hmu : mu < 256) (hne : ne < 256)
    (h0 : (∀ S, ¬ qa_Cd F mu ne S) → post (-1)) (h1 : ∀ T, qa_Cd F mu ne T → (∀ S, qa_Cd F mu ne S → qa_ms a S ≤ qa_ms a T) → post (nI T)) : wpY_best post (nI h, qa_A B, qa_A w, qa_A a, fi) (nI mu) (nI ne) :=
  ⟨257, qy_best5 ha hf hmu hne h0 h1 256 0 (-1) rfl (Or.inl ⟨rfl, fun S hS => absurd hS (by omega)⟩)⟩
theorem qy_of4 {post : Int32 → Prop} {k : Nat} (hB : ∀ j, B j < 256) (hw : ∀ j, w j < 4) (hk : k < 4) (hp : ∀ O, O < 256 → (∀ i, O.testBit i = true ↔ i < 8 ∧ 0 < B i ∧ w i = k) → post (nI O)) :
    ∀ d j O, j + d = 8 → O < 256 → (∀ i, O.testBit i = true ↔ i < j ∧ 0 < B i ∧ w i = k) → wY_of_4 post (nI k) (nI h) (qa_A B) (qa_A w) (qa_A a) fi (d + 1) (nI O) (nI j) := by
  intro d
  induction d with
  | zero =>
    intro j O hj hO hT
    obtain rfl : j = 8 := by omega
    exact br_t (nI_le (a := 8) (b := 8) (by omega) (by decide)) (hp O hO hT)
  | succ d ih =>
    intro j O hj hO hT
    have j8 : j < 8 := by omega
    have sk : ¬ (0 < B j ∧ w j = k) → wY_of_4 post (nI k) (nI h) (qa_A B) (qa_A w) (qa_A a) fi (d + 1) (nI (O ||| 0)) (nI (j + 1)) := fun n => by
      rw [Nat.or_zero]
      refine ih (j + 1) O (by omega) hO (fun i => ?_)
      rw [hT]
      constructor
      · intro z; exact ⟨by omega, z.2⟩
      · intro z
        have e : i ≠ j := fun e => n (by rw [← e]; exact z.2)
        exact ⟨by omega, z.2⟩
    refine br_f (nI_ge (b := 8) j8 (by decide)) (qy_is hB j8 (fun z => ?_) (fun z => ?_))
    · exact br_t rfl (nm_r (qa_or O 0) (nm_r (nI_1 j) (sk (fun q => by omega))))
    · refine br_f qa_10 (And.intro (vp_in_nI j8 (by decide)) ?_)
      rw [qa_r8 j8]
      have w4 := hw j
      refine pk_eq (w j) k (fun e => nm_r (e' := nI (O ||| 2 ^ j)) (by rw [qa_shl (by omega), qa_or]) (nm_r (nI_1 j) (ih (j + 1) _ (by omega) (qa_orlt hO (qa_powlt j8)) (fun i => ?_)))) (fun ne => nm_r (qa_or O 0) (nm_r (nI_1 j) (sk (fun q => ne q.2)))) rfl rfl (by omega) (by omega)
      rw [qa_orT, qa_powT, hT]
      constructor
      · rintro (q | q)
        · exact ⟨by omega, q.2⟩
        · rw [← q]; exact ⟨by omega, z, e⟩
      · intro q
        by_cases ji : j = i
        · exact Or.inr ji
        · exact Or.inl ⟨by omega, q.2⟩
theorem qy_of {post : Int32 → Prop} {k : Nat} (hB : ∀ j, B j < 256) (hw : ∀ j, w j < 4) (hk : k < 4) (hp : ∀ O, O < 256 → (∀ i, O.testBit i = true ↔ i < 8 ∧ 0 < B i ∧ w i = k) → post (nI O)) : wpY_of post (nI h, qa_A B, qa_A w, qa_A a, fi) (nI k) :=
  ⟨9, qy_of4 hB hw hk hp 8 0 0 rfl (by decide) (fun i => ⟨fun z => qa_zT z, fun z => absurd z.1 (by omega)⟩)⟩
theorem qy_bids4 {post : Int32 → Prop} (hB : ∀ j, B j < 256) (hp : ∀ O, O < 256 → (∀ i, O.testBit i = true ↔ i < 8 ∧ 0 < B i) → post (nI O)) :
    ∀ d j O, j + d = 8 → O < 256 → (∀ i, O.testBit i = true ↔ i < j ∧ 0 < B i) → wY_bids_4 post (nI h) (qa_A B) (qa_A w) (qa_A a) fi (d + 1) (nI O) (nI j) := by
  intro d
  induction d with
  | zero =>
    intro j O hj hO hT
    obtain rfl : j = 8 := by omega
    exact br_t (nI_le (a := 8) (b := 8) (by omega) (by decide)) (hp O hO hT)
  | succ d ih =>
    intro j O hj hO hT
    have j8 : j < 8 := by omega
    refine br_f (nI_ge (b := 8) j8 (by decide)) (qy_is hB j8 (fun z => ?_) (fun z => ?_))
    · refine br_t rfl (nm_r (e' := nI O) (by rw [show (0 : Int32) = nI 0 from rfl, qa_or, Nat.or_zero]) (nm_r (nI_1 j) (ih (j + 1) O (by omega) hO (fun i => ?_))))
      rw [hT]
      constructor
      · intro q; exact ⟨by omega, q.2⟩
      · intro q
        have e : i ≠ j := fun e => by rw [e] at q; omega
        exact ⟨by omega, q.2⟩
    · refine br_f qa_10 (nm_r (e' := nI (O ||| 2 ^ j)) (by rw [qa_shl (by omega), qa_or]) (nm_r (nI_1 j) (ih (j + 1) _ (by omega) (qa_orlt hO (qa_powlt j8)) (fun i => ?_))))
      rw [qa_orT, qa_powT, hT]
      constructor
      · rintro (q | q)
        · exact ⟨by omega, q.2⟩
        · rw [← q]; exact ⟨by omega, z⟩
      · intro q
        by_cases ji : j = i
        · exact Or.inr ji
        · exact Or.inl ⟨by omega, q.2⟩
theorem qy_bids {post : Int32 → Prop} (hB : ∀ j, B j < 256) (hp : ∀ O, O < 256 → (∀ i, O.testBit i = true ↔ i < 8 ∧ 0 < B i) → post (nI O)) : wpY_bids post (nI h, qa_A B, qa_A w, qa_A a, fi) :=
  ⟨9, qy_bids4 hB hp 8 0 0 rfl (by decide) (fun i => ⟨fun z => qa_zT z, fun z => absurd z.1 (by omega)⟩)⟩
end
end
section
/-! what the answering methods give, on each side -/
section
variable {p h wn : Nat} {kn : Int32} {bu w a be on : Nat → Nat}
theorem qx_isB {post : Int32 → Prop} {k : Nat} (hk : k < 4) (hp : post 1) : wpX_isBidder post (nI k) :=
  br_f (nI_pos (by omega)) (br_f (nI_ge (b := 4) hk (by decide)) hp)
theorem qx_isBN {post : Int32 → Prop} {x : Int32} (hx : x < 0 ∨ nI 4 ≤ x) (hp : post 0) : wpX_isBidder post x :=
  br_c (fun _ => hp) (fun z => br_t (hx.resolve_left z) hp)
theorem qx_best4 (hw : ∀ j, w j < 4) {B : Nat → Nat} {E m T : Nat} (hm : qa_Mx a B w (fun c => w c < 4) E m) (hT : qa_Ar a B w (fun _ => True) E T) : m / 256 = qa_sm a T := by
  have e := qa_ar_mx hT (qa_mx_congr (fun c _ => ⟨fun _ => trivial, fun _ => hw c⟩) hm)
  rw [e]
  exact qa_div hT.1.1.1
theorem qx_winners {post : Int32 → SX → Prop} (ok : qa_ok p h bu w a) (hkn : kn = 0 ∨ (kn = 1 ∧ qa_Tab a (qa_B p bu) w h be on wn))
    (hp : ∀ wn be on, qa_Tab a (qa_B p bu) w h be on wn → post (nI wn) (nI p, nI h, 1, nI wn, qa_A bu, qa_A w, qa_A a, qa_A be, qa_A on)) : wpX_winners post (nI p, nI h, kn, nI wn, qa_A bu, qa_A w, qa_A a, qa_A be, qa_A on) := by
  unfold wpX_winners
  dsimp only
  exact qx_learn ok hkn (fun wn be on t => hp wn be on t)
theorem qx_revenueA {post : Int32 → SX → Prop} (ok : qa_ok p h bu w a) (hkn : kn = 0 ∨ (kn = 1 ∧ qa_Tab a (qa_B p bu) w h be on wn))
    (hp : ∀ wn be on, qa_Tab a (qa_B p bu) w h be on wn → post (nI (qa_sm a wn)) (nI p, nI h, 1, nI wn, qa_A bu, qa_A w, qa_A a, qa_A be, qa_A on)) : wpX_revenue post (nI p, nI h, kn, nI wn, qa_A bu, qa_A w, qa_A a, qa_A be, qa_A on) := by
  unfold wpX_revenue
  dsimp only
  refine qx_learn ok hkn (fun wn be on t => ?_)
  dsimp only [wpX_offered]
  have l := qa_offlt h
  rw [qa_off, qa_ix4]
  refine And.intro (vp_in_nI (by omega) (by decide)) ?_
  have m := t.1 4 (qa_sd 255 h) (by omega) l
  rw [show 4 * 256 + qa_sd 255 h = 1024 + qa_sd 255 h by omega] at m
  have b := qa_mxb ok.2.2.2.2.1 m
  rw [qa_rd (1024 + qa_sd 255 h) rfl (by omega), qa_shr8 (by omega), qx_best4 ok.2.2.2.1 m t.2.2]
  exact hp wn be on t
theorem qx_revenue {post : Int32 → SX → Prop} {T : Nat} (ok : qa_ok p h bu w a) (hkn : kn = 0 ∨ (kn = 1 ∧ qa_Tab a (qa_B p bu) w h be on wn)) (hT : qa_Ar a (qa_B p bu) w (fun _ => True) (qa_sd 255 h) T)
    (hp : ∀ wn be on, qa_Tab a (qa_B p bu) w h be on wn → post (nI (qa_sm a T)) (nI p, nI h, 1, nI wn, qa_A bu, qa_A w, qa_A a, qa_A be, qa_A on)) : wpX_revenue post (nI p, nI h, kn, nI wn, qa_A bu, qa_A w, qa_A a, qa_A be, qa_A on) :=
  qx_revenueA ok hkn (fun wn be on t => by have g := hp wn be on t; rw [← qa_ar_uniq t.2.2 hT] at g; exact g)
theorem qx_revenueWithout {post : Int32 → SX → Prop} {k : Nat} (ok : qa_ok p h bu w a) (hkn : kn = 0 ∨ (kn = 1 ∧ qa_Tab a (qa_B p bu) w h be on wn)) (hk : k < 4)
    (hp : ∀ wn be on, qa_Tab a (qa_B p bu) w h be on wn → ∀ m, qa_Mx a (qa_B p bu) w (fun c => w c ≠ k) (qa_sd 255 h) m → post (nI (m / 256)) (nI p, nI h, 1, nI wn, qa_A bu, qa_A w, qa_A a, qa_A be, qa_A on)) : wpX_revenueWithout post (nI p, nI h, kn, nI wn, qa_A bu, qa_A w, qa_A a, qa_A be, qa_A on) (nI k) := by
  unfold wpX_revenueWithout
  dsimp only
  refine qx_isB hk (br_f qa_10 ?_)
  refine qx_learn ok hkn (fun wn be on t => ?_)
  dsimp only [wpX_offered]
  rw [qa_off]
  refine qx_sw ok t.1 t.2.1 hk (qa_offlt h) (fun m hm => ?_)
  have b := qa_mxb ok.2.2.2.2.1 hm
  rw [qa_shr8 (by omega)]
  exact hp wn be on t m hm
def qa_un (B : Nat → Nat) (S : Nat) : Nat → Nat → Nat
  | 0, acc => acc
  | d + 1, acc => qa_un B S d (if S.testBit (7 - d) = true then acc ||| B (7 - d) else acc)
theorem qa_un_c {B B' : Nat → Nat} {S : Nat} (hc : ∀ i, S.testBit i = true → B i = B' i) : ∀ d acc, qa_un B S d acc = qa_un B' S d acc := by
  intro d
  induction d with
  | zero => intro acc; rfl
  | succ d ih =>
    intro acc
    rw [qa_un, qa_un, ih]
    by_cases s : S.testBit (7 - d) = true
    · rw [if_pos s, if_pos s, hc _ s]
    · rw [if_neg s, if_neg s]
theorem qx_sold8 {post : Int32 → SX → Prop} (hw : wn < 256) :
    ∀ d j acc, j + d = 8 → post (nI (qa_un bu wn d acc)) (nI p, nI h, kn, nI wn, qa_A bu, qa_A w, qa_A a, qa_A be, qa_A on) → wX_sold_8 post (nI p) (nI h) kn (nI wn) (qa_A bu) (qa_A w) (qa_A a) (qa_A be) (qa_A on) (d + 1) (nI acc) (nI j) := by
  intro d
  induction d with
  | zero =>
    intro j acc hj hp
    obtain rfl : j = 8 := by omega
    exact br_t (nI_le (a := 8) (b := 8) (by omega) (by decide)) hp
  | succ d ih =>
    intro j acc hj hp
    have j8 : j < 8 := by omega
    rw [qa_un, show 7 - d = j by omega] at hp
    refine br_f (nI_ge (b := 8) j8 (by decide)) ?_
    by_cases s : wn.testBit j = true
    · rw [if_pos s] at hp
      exact br_f (qa_bitn0 (by omega) (by omega) s) (And.intro (vp_in_nI j8 (by decide)) (nm_r (e' := nI (acc ||| bu j)) (by rw [qa_r8 j8, qa_or]) (nm_r (nI_1 j) (ih (j + 1) _ (by omega) hp))))
    · rw [if_neg s] at hp
      exact br_t ((qa_bit0 (by omega) (by omega)).mpr (qa_nt s)) (nm_r (nI_1 j) (ih (j + 1) _ (by omega) hp))
theorem qx_sold {post : Int32 → SX → Prop} (ok : qa_ok p h bu w a) (hkn : kn = 0 ∨ (kn = 1 ∧ qa_Tab a (qa_B p bu) w h be on wn))
    (hp : ∀ wn be on, qa_Tab a (qa_B p bu) w h be on wn → post (nI (qa_un bu wn 8 0)) (nI p, nI h, 1, nI wn, qa_A bu, qa_A w, qa_A a, qa_A be, qa_A on)) : wpX_sold post (nI p, nI h, kn, nI wn, qa_A bu, qa_A w, qa_A a, qa_A be, qa_A on) := by
  unfold wpX_sold
  dsimp only
  refine qx_learn ok hkn (fun wn be on t => ?_)
  exact ⟨9, qx_sold8 t.2.2.1.1.1 8 0 0 rfl (hp wn be on t)⟩
theorem qx_pay15 {post : Int32 → SX → Prop} {k : Nat} (ok : qa_ok p h bu w a) (t : qa_Tab a (qa_B p bu) w h be on wn) (hk : k < 4)
    (h0 : (∀ b, wn.testBit b = true → w b ≠ k) → post 0 (nI p, nI h, 1, nI wn, qa_A bu, qa_A w, qa_A a, qa_A be, qa_A on))
    (h1 : ∀ b, wn.testBit b = true → w b = k → ∀ wn' be on, qa_Tab a (qa_B p bu) w h be on wn' → ∀ m, qa_Mx a (qa_B p bu) w (fun c => w c ≠ k) (qa_sd 255 h) m → post (nI (m / 256) - (nI (qa_sm a wn) - nI (a b))) (nI p, nI h, 1, nI wn', qa_A bu, qa_A w, qa_A a, qa_A be, qa_A on)) :
    ∀ d j, j + d = 8 → (∀ b, b < j → wn.testBit b = true → w b ≠ k) → wX_payment_15 post (nI k) (nI p) (nI h) 1 (nI wn) (qa_A bu) (qa_A w) (qa_A a) (qa_A be) (qa_A on) (d + 1) (nI j) := by
  have w8 := t.2.2.1.1.1
  intro d
  induction d with
  | zero =>
    intro j hj hn
    obtain rfl : j = 8 := by omega
    exact br_t (nI_le (a := 8) (b := 8) (by omega) (by decide)) (h0 (fun b hb => hn b (qa_b8 w8 hb) hb))
  | succ d ih =>
    intro j hj hn
    have j8 : j < 8 := by omega
    have sk : (wn.testBit j = true → w j ≠ k) → wX_payment_15 post (nI k) (nI p) (nI h) 1 (nI wn) (qa_A bu) (qa_A w) (qa_A a) (qa_A be) (qa_A on) (d + 1) (nI (j + 1)) := fun z =>
      ih (j + 1) (by omega) (fun b hb hs => by
        by_cases e : b = j
        · rw [e] at hs ⊢; exact z hs
        · exact hn b (by omega) hs)
    refine br_f (nI_ge (b := 8) j8 (by decide)) ?_
    by_cases s : wn.testBit j = true
    · refine br_f (qa_bitn0 (by omega) (by omega) s) (And.intro (vp_in_nI j8 (by decide)) ?_)
      rw [qa_r8 j8]
      have w4 := ok.2.2.2.1 j
      refine pk_eq (w j) k (fun e => ?_) (fun ne => nm_r (nI_1 j) (sk (fun _ => ne))) rfl rfl (by omega) (by omega)
      refine qx_revenue ok (Or.inr ⟨rfl, t⟩) t.2.2 (fun wn' be' on' t' => ?_)
      dsimp only
      refine And.intro (vp_in_nI j8 (by decide)) (nm_r (e' := nI (qa_sm a wn) - nI (a j)) (by rw [qa_r8 j8]) ?_)
      refine qx_revenueWithout ok (Or.inr ⟨rfl, t'⟩) hk (fun wn2 be2 on2 t2 m hm => ?_)
      exact h1 j s e wn2 be2 on2 t2 m hm
    · exact br_t ((qa_bit0 (by omega) (by omega)).mpr (qa_nt s)) (nm_r (nI_1 j) (sk (fun q => absurd q s)))
theorem qx_payment {post : Int32 → SX → Prop} {k : Nat} (ok : qa_ok p h bu w a) (hkn : kn = 0 ∨ (kn = 1 ∧ qa_Tab a (qa_B p bu) w h be on wn)) (hk : k < 4)
    (h0 : ∀ wn be on, qa_Tab a (qa_B p bu) w h be on wn → (∀ b, wn.testBit b = true → w b ≠ k) → post 0 (nI p, nI h, 1, nI wn, qa_A bu, qa_A w, qa_A a, qa_A be, qa_A on))
    (h1 : ∀ T, qa_Ar a (qa_B p bu) w (fun _ => True) (qa_sd 255 h) T → ∀ b, T.testBit b = true → w b = k → ∀ wn be on, qa_Tab a (qa_B p bu) w h be on wn → ∀ m, qa_Mx a (qa_B p bu) w (fun c => w c ≠ k) (qa_sd 255 h) m → post (nI (m / 256) - (nI (qa_sm a T) - nI (a b))) (nI p, nI h, 1, nI wn, qa_A bu, qa_A w, qa_A a, qa_A be, qa_A on)) : wpX_payment post (nI p, nI h, kn, nI wn, qa_A bu, qa_A w, qa_A a, qa_A be, qa_A on) (nI k) := by
  unfold wpX_payment
  dsimp only
  refine qx_isB hk (br_f qa_10 ?_)
  refine qx_learn ok hkn (fun wn be on t => ?_)
  exact ⟨9, qx_pay15 ok t hk (h0 wn be on t) (fun b hb e wn' be' on' t' m hm => h1 wn t.2.2 b hb e wn' be' on' t' m hm) 8 0 rfl (fun b hb => absurd hb (by omega))⟩
theorem qx_th67 {post : Int32 → SX → Prop} {b mw mo : Nat} (b8 : b < 8) (hmw : mw < 131072) (hmo : mo < 131072)
    (hp : ∀ l, 1 ≤ l → l ≤ 51 → (∀ x, 1 ≤ x → x < l → ¬ mo < x * 256 + 2 ^ (7 - b) + mw) → (l = 51 ∨ mo < l * 256 + 2 ^ (7 - b) + mw) → post (nI l) (nI p, nI h, kn, nI wn, qa_A bu, qa_A w, qa_A a, qa_A be, qa_A on)) :
    ∀ d x, x + d = 51 → 1 ≤ x → (∀ y, 1 ≤ y → y < x → ¬ mo < y * 256 + 2 ^ (7 - b) + mw) → wX_threshold_67 post (nI b) (nI mw) (nI mo) (nI p) (nI h) kn (nI wn) (qa_A bu) (qa_A w) (qa_A a) (qa_A be) (qa_A on) (d + 1) (nI x) := by
  have pb : 2 ^ (7 - b) ≤ 2 ^ 7 := Nat.pow_le_pow_right (by decide) (by omega)
  intro d
  induction d with
  | zero =>
    intro x hx h1 hn
    obtain rfl : x = 51 := by omega
    exact br_t (nI_lt (a := 50) (b := 51) (by omega) (by decide)) (hp 51 h1 (by omega) hn (Or.inl rfl))
  | succ d ih =>
    intro x hx h1 hn
    refine br_f (nI_nlt (a := 50) (by omega) (by omega)) ?_
    dsimp only [wpX_mark]
    rw [qa_mrk b8, qa_ix, nI_add]
    refine pk_le (x * 256 + 2 ^ (7 - b) + mw) mo (fun le => nm_r (nI_1 x) (ih (x + 1) (by omega) (by omega) (fun y y1 y2 => ?_))) (fun lt => hp x h1 (by omega) hn (Or.inr lt)) rfl rfl (by omega) (by omega)
    by_cases e : y = x
    · rw [e]; omega
    · exact hn y y1 (by omega)
theorem qx_threshold {post : Int32 → SX → Prop} {b : Nat} (ok : qa_ok p h bu w a) (hkn : kn = 0 ∨ (kn = 1 ∧ qa_Tab a (qa_B p bu) w h be on wn)) (b8 : b < 8)
    (h0 : p.testBit b = false → post (-1) (nI p, nI h, kn, nI wn, qa_A bu, qa_A w, qa_A a, qa_A be, qa_A on))
    (h1 : p.testBit b = true → ¬ qa_dis (bu b) h → post 51 (nI p, nI h, kn, nI wn, qa_A bu, qa_A w, qa_A a, qa_A be, qa_A on))
    (h2 : p.testBit b = true → qa_dis (bu b) h → ∀ wn be on, qa_Tab a (qa_B p bu) w h be on wn → ∀ mw mo, qa_Mx a (qa_B p bu) w (fun c => w c ≠ w b) (qa_sd (qa_sd 255 h) (bu b)) mw → qa_Mx a (qa_B p bu) w (fun c => c ≠ b) (qa_sd 255 h) mo → ∀ l, 1 ≤ l → l ≤ 51 → (∀ x, 1 ≤ x → x < l → ¬ mo < x * 256 + 2 ^ (7 - b) + mw) → (l = 51 ∨ mo < l * 256 + 2 ^ (7 - b) + mw) → post (nI l) (nI p, nI h, 1, nI wn, qa_A bu, qa_A w, qa_A a, qa_A be, qa_A on)) : wpX_threshold post (nI p, nI h, kn, nI wn, qa_A bu, qa_A w, qa_A a, qa_A be, qa_A on) (nI b) := by
  unfold wpX_threshold
  dsimp only
  refine qx_has ok.1 b8 (fun z => br_t rfl (h0 z)) (fun z => br_f qa_10 (And.intro (vp_in_nI b8 (by decide)) ?_))
  rw [qa_r8 b8]
  by_cases hd : qa_dis (bu b) h
  · refine br_t ((qa_and0 (ok.2.2.1 b)).mpr hd) (qx_learn ok hkn (fun wn be on t => ?_))
    dsimp only [wpX_offered]
    rw [qa_off, qa_r8 b8, qa_r8 b8, qa_an (qa_offlt h)]
    refine And.intro (vp_in_nI b8 (by decide)) (And.intro (vp_in_nI b8 (by decide)) ?_)
    refine qx_sw ok t.1 t.2.1 (ok.2.2.2.1 b) (qa_sdlt (qa_offlt h)) (fun mw hw => qx_sl ok t.1 t.2.1 b8 (fun mo ho => ⟨51, ?_⟩))
    exact qx_th67 b8 (qa_mxb ok.2.2.2.2.1 hw) (qa_mxb ok.2.2.2.2.1 ho) (h2 z hd wn be on t mw mo hw ho) 50 1 rfl (by omega) (fun y y1 y2 => absurd y2 (by omega))
  · exact br_f (fun y => hd ((qa_and0 (ok.2.2.1 b)).mp y)) (h1 z hd)
theorem qx_revenueWith {post : Int32 → SX → Prop} {b : Nat} (ok : qa_ok p h bu w a) (hkn : kn = 0 ∨ (kn = 1 ∧ qa_Tab a (qa_B p bu) w h be on wn)) (b8 : b < 8)
    (h0 : p.testBit b = false → post (-1) (nI p, nI h, kn, nI wn, qa_A bu, qa_A w, qa_A a, qa_A be, qa_A on))
    (h1 : p.testBit b = true → ¬ qa_dis (bu b) h → post (-1) (nI p, nI h, kn, nI wn, qa_A bu, qa_A w, qa_A a, qa_A be, qa_A on))
    (h2 : p.testBit b = true → qa_dis (bu b) h → ∀ wn be on, qa_Tab a (qa_B p bu) w h be on wn → ∀ mw, qa_Mx a (qa_B p bu) w (fun c => w c ≠ w b) (qa_sd (qa_sd 255 h) (bu b)) mw → post (nI (a b + mw / 256)) (nI p, nI h, 1, nI wn, qa_A bu, qa_A w, qa_A a, qa_A be, qa_A on)) : wpX_revenueWith post (nI p, nI h, kn, nI wn, qa_A bu, qa_A w, qa_A a, qa_A be, qa_A on) (nI b) := by
  unfold wpX_revenueWith
  dsimp only
  refine qx_has ok.1 b8 (fun z => br_t rfl (h0 z)) (fun z => br_f qa_10 (And.intro (vp_in_nI b8 (by decide)) ?_))
  rw [qa_r8 b8]
  by_cases hd : qa_dis (bu b) h
  · refine br_t ((qa_and0 (ok.2.2.1 b)).mpr hd) (qx_learn ok hkn (fun wn be on t => ?_))
    dsimp only [wpX_offered]
    rw [qa_off, qa_r8 b8, qa_r8 b8, qa_r8 b8, qa_an (qa_offlt h)]
    refine And.intro (vp_in_nI b8 (by decide)) (nm_e (And.intro (vp_in_nI b8 (by decide)) ?_))
    refine qx_sw ok t.1 t.2.1 (ok.2.2.2.1 b) (qa_sdlt (qa_offlt h)) (fun mw hw => And.intro (vp_in_nI b8 (by decide)) ?_)
    have l := qa_mxb ok.2.2.2.2.1 hw
    rw [qa_shr8 (by omega), nI_add]
    exact h2 z hd wn be on t mw hw
  · exact br_f (fun y => hd ((qa_and0 (ok.2.2.1 b)).mp y)) (h1 z hd)
theorem qx_price {post : Int32 → SX → Prop} {i : Nat} (ok : qa_ok p h bu w a) (hkn : kn = 0 ∨ (kn = 1 ∧ qa_Tab a (qa_B p bu) w h be on wn)) (i8 : i < 8)
    (hp : ∀ wn be on, qa_Tab a (qa_B p bu) w h be on wn → ∀ T m, qa_Ar a (qa_B p bu) w (fun _ => True) (qa_sd 255 h) T → qa_Mx a (qa_B p bu) w (fun c => w c < 4) (qa_sd (qa_sd 255 h) (2 ^ i)) m → post (nI (qa_sm a T) - nI (m / 256)) (nI p, nI h, 1, nI wn, qa_A bu, qa_A w, qa_A a, qa_A be, qa_A on)) : wpX_price post (nI p, nI h, kn, nI wn, qa_A bu, qa_A w, qa_A a, qa_A be, qa_A on) (nI i) := by
  unfold wpX_price
  dsimp only
  refine br_f (nI_pos (by omega)) (br_t (nI_lt (b := 8) i8 (by decide)) (qx_learn ok hkn (fun wn be on t => ?_)))
  dsimp only [wpX_offered]
  have l := qa_sdlt (y := 2 ^ i) (qa_offlt h)
  rw [qa_off, qa_shl (by omega), qa_an (qa_offlt h)]
  refine nm_e ?_
  rw [qa_ix4]
  have m := t.1 4 (qa_sd (qa_sd 255 h) (2 ^ i)) (by omega) l
  rw [show 4 * 256 + qa_sd (qa_sd 255 h) (2 ^ i) = 1024 + qa_sd (qa_sd 255 h) (2 ^ i) by omega] at m
  have b := qa_mxb ok.2.2.2.2.1 m
  rw [qa_rd (1024 + qa_sd (qa_sd 255 h) (2 ^ i)) rfl (by omega), qa_shr8 (by omega)]
  refine And.intro (vp_in_nI (by omega) (by decide)) (nm_e (qx_revenue ok (Or.inr ⟨rfl, t⟩) t.2.2 (fun wn' be' on' t' => ?_)))
  exact hp wn' be' on' t' wn _ t.2.2 m
end
end
section
/-! what the reference's answering methods give -/
section
variable {h : Nat} {B w a : Nat → Nat} {fi : Nat → Int32}
theorem qa_sub0 (S : Nat) : qa_sub 0 S := fun i hi => qa_zT hi
theorem qa_dis0 (S : Nat) : qa_dis 0 S := fun i hi => qa_zT hi
theorem qa_lt3 {x : Int32} (hx : nI 4 ≤ x) : 3 < x := by
  have e : (nI 4).toInt = 4 := by decide
  have e3 : (3 : Int32).toInt = 3 := by decide
  rw [Int32.le_iff_toInt_le, e] at hx
  rw [Int32.lt_iff_toInt_lt, e3]
  omega
theorem qy_isB {post : Int32 → Prop} {k : Nat} (hk : k < 4) (hp : post 1) : wpY_bidder post (nI h, qa_A B, qa_A w, qa_A a, fi) (nI k) :=
  br_f (nI_pos (by omega)) (br_f (nI_nlt (a := 3) (by omega) (by decide)) hp)
theorem qy_isBN {post : Int32 → Prop} {x : Int32} (hx : x < 0 ∨ nI 4 ≤ x) (hp : post 0) : wpY_bidder post (nI h, qa_A B, qa_A w, qa_A a, fi) x :=
  br_c (fun _ => hp) (fun z => br_t (qa_lt3 (hx.resolve_left z)) hp)
theorem qy_bestA {post : Int32 → Prop} (ha : ∀ j, a j ≤ 50) (hf : ∀ S, S < 256 → fi S = qa_bo (qa_Al B w (qa_sd 255 h) S))
    (hp : ∀ T, qa_Ar a B w (fun _ => True) (qa_sd 255 h) T → post (nI T)) : wpY_best post (nI h, qa_A B, qa_A w, qa_A a, fi) 0 0 := by
  refine qy_best (mu := 0) (ne := 0) ha hf (by decide) (by decide) (fun n => absurd ⟨by decide, qa_Al0, qa_sub0 _, qa_dis0 _⟩ (n 0)) (fun T c g => hp T ⟨⟨c.2.1, fun _ _ => trivial⟩, fun S q => g S ⟨q.1.1, q.1, qa_sub0 _, qa_dis0 _⟩⟩)
theorem qy_winners {post : Int32 → SY → Prop} (hB : ∀ j, B j < 256) (hw : ∀ j, w j < 4) (ha : ∀ j, a j ≤ 50)
    (hp : ∀ fi T, qa_Ar a B w (fun _ => True) (qa_sd 255 h) T → post (nI T) (nI h, qa_A B, qa_A w, qa_A a, fi)) : wpY_winners post (nI h, qa_A B, qa_A w, qa_A a, fi) := by
  unfold wpY_winners
  dsimp only
  refine qy_work hB hw (fun fi hf => ?_)
  dsimp only
  exact qy_bestA ha hf (fun T hT => hp fi T hT)
theorem qy_revenue {post : Int32 → SY → Prop} (hB : ∀ j, B j < 256) (hw : ∀ j, w j < 4) (ha : ∀ j, a j ≤ 50)
    (hp : ∀ fi T, qa_Ar a B w (fun _ => True) (qa_sd 255 h) T → post (nI (qa_sm a T)) (nI h, qa_A B, qa_A w, qa_A a, fi)) : wpY_revenue post (nI h, qa_A B, qa_A w, qa_A a, fi) := by
  unfold wpY_revenue
  dsimp only
  refine qy_winners hB hw ha (fun fi T hT => ?_)
  dsimp only
  exact qy_sum hT.1.1.1 (hp fi T hT)
theorem qy_sold9 {post : Int32 → SY → Prop} {T : Nat} (hT : T < 256) :
    ∀ d j acc, j + d = 8 → post (nI (qa_un B T d acc)) (nI h, qa_A B, qa_A w, qa_A a, fi) → wY_sold_9 post (nI T) (nI h) (qa_A B) (qa_A w) (qa_A a) fi (d + 1) (nI acc) (nI j) := by
  intro d
  induction d with
  | zero =>
    intro j acc hj hp
    obtain rfl : j = 8 := by omega
    exact br_t (nI_le (a := 8) (b := 8) (by omega) (by decide)) hp
  | succ d ih =>
    intro j acc hj hp
    have j8 : j < 8 := by omega
    rw [qa_un, show 7 - d = j by omega] at hp
    refine br_f (nI_ge (b := 8) j8 (by decide)) ?_
    by_cases s : T.testBit j = true
    · rw [if_pos s] at hp
      exact br_t ((qa_bit1 (by omega) (by omega)).mpr s) (And.intro (vp_in_nI j8 (by decide)) (nm_r (e' := nI (acc ||| B j)) (by rw [qa_r8 j8, qa_or]) (nm_r (nI_1 j) (ih (j + 1) _ (by omega) hp))))
    · rw [if_neg s] at hp
      exact br_f (qa_bitn1 (by omega) (by omega) (qa_nt s)) (nm_r (nI_1 j) (ih (j + 1) _ (by omega) hp))
theorem qy_sold {post : Int32 → SY → Prop} (hB : ∀ j, B j < 256) (hw : ∀ j, w j < 4) (ha : ∀ j, a j ≤ 50)
    (hp : ∀ fi T, qa_Ar a B w (fun _ => True) (qa_sd 255 h) T → post (nI (qa_un B T 8 0)) (nI h, qa_A B, qa_A w, qa_A a, fi)) : wpY_sold post (nI h, qa_A B, qa_A w, qa_A a, fi) := by
  unfold wpY_sold
  dsimp only
  refine qy_winners hB hw ha (fun fi T hT => ?_)
  exact ⟨9, qy_sold9 hT.1.1.1 8 0 0 rfl (hp fi T hT)⟩
theorem qy_revenueWithout {post : Int32 → SY → Prop} {k : Nat} (hB : ∀ j, B j < 256) (hw : ∀ j, w j < 4) (ha : ∀ j, a j ≤ 50) (hk : k < 4)
    (hp : ∀ fi T, qa_Ar a B w (fun c => w c ≠ k) (qa_sd 255 h) T → post (nI (qa_sm a T)) (nI h, qa_A B, qa_A w, qa_A a, fi)) : wpY_revenueWithout post (nI h, qa_A B, qa_A w, qa_A a, fi) (nI k) := by
  unfold wpY_revenueWithout
  dsimp only
  refine qy_isB hk (br_f qa_10 ?_)
  refine qy_work hB hw (fun fi hf => ?_)
  dsimp only
  refine qy_of hB hw hk (fun O hO hT => ?_)
  have iff : ∀ S, qa_Cd (qa_Al B w (qa_sd 255 h)) 0 O S ↔ qa_Ag B w (fun c => w c ≠ k) (qa_sd 255 h) S := fun S => by
    constructor
    · intro c
      refine ⟨c.2.1, fun b hb e => ?_⟩
      exact qa_tf hb (c.2.2.2 b ((hT b).mpr ⟨qa_b8 c.1 hb, (c.2.1.2 b hb).1.1, e⟩))
    · intro q
      refine ⟨q.1.1, q.1, qa_sub0 _, fun i hi => qa_nt (fun z => ?_)⟩
      exact q.2 i z ((hT i).mp hi).2.2
  refine qy_best (mu := 0) ha hf (by decide) hO (fun n => absurd ((iff 0).mpr qa_Ag0) (n 0)) (fun T c g => ?_)
  have A : qa_Ar a B w (fun c => w c ≠ k) (qa_sd 255 h) T := ⟨(iff T).mp c, fun S q => g S ((iff S).mpr q)⟩
  exact qy_sum c.1 (hp fi T A)
theorem qy_payment {post : Int32 → SY → Prop} {k : Nat} (hB : ∀ j, B j < 256) (hw : ∀ j, w j < 4) (ha : ∀ j, a j ≤ 50) (hk : k < 4)
    (h0 : ∀ fi T, qa_Ar a B w (fun _ => True) (qa_sd 255 h) T → (∀ b, T.testBit b = true → w b ≠ k) → post 0 (nI h, qa_A B, qa_A w, qa_A a, fi))
    (h1 : ∀ fi T b U, qa_Ar a B w (fun _ => True) (qa_sd 255 h) T → T.testBit b = true → w b = k → qa_Ar a B w (fun c => w c ≠ k) (qa_sd 255 h) U → post (nI (qa_sm a U) - (nI (qa_sm a T) - nI (a b))) (nI h, qa_A B, qa_A w, qa_A a, fi)) : wpY_payment post (nI h, qa_A B, qa_A w, qa_A a, fi) (nI k) := by
  unfold wpY_payment
  dsimp only
  refine qy_isB hk (br_f qa_10 ?_)
  refine qy_winners hB hw ha (fun fi T hT => ?_)
  dsimp only
  refine qy_of hB hw hk (fun O hO hTO => nm_r (nx_and T O) ?_)
  by_cases ex : ∃ b, T.testBit b = true ∧ w b = k
  · obtain ⟨b, e1, e2⟩ := ex
    have b8 := qa_b8 hT.1.1.1 e1
    have M := qa_mine hTO hT.1.1 e1 e2
    have pl := qa_powlt b8
    have pp : 0 < 2 ^ b := Nat.two_pow_pos b
    rw [M]
    refine br_f (nI_ne0 pp (by omega)) ?_
    refine qy_revenueWithout hB hw ha hk (fun fi2 U hU => ?_)
    dsimp only
    refine qy_sum hT.1.1.1 (qy_sum pl ?_)
    rw [qa_sm_pow b8]
    exact h1 fi2 T b U hT e1 e2 hU
  · have nn : ∀ b, T.testBit b = true → w b ≠ k := fun b hb e => ex ⟨b, hb, e⟩
    have M := qa_mine0 hTO nn
    rw [M]
    exact br_t rfl (h0 fi T hT nn)
theorem qy_th28 {post : Int32 → SY → Prop} {b : Nat} {Win : Nat → Prop} (b8 : b < 8) (ha : ∀ j, a j ≤ 50) (hf : ∀ S, S < 256 → fi S = qa_bo (qa_Al B w (qa_sd 255 h) S))
    (hW : ∀ x T, qa_Ar (qa_up a b x) B w (fun _ => True) (qa_sd 255 h) T → (T.testBit b = true ↔ Win x))
    (hp : ∀ l, 1 ≤ l → l ≤ 51 → (∀ x, 1 ≤ x → x < l → ¬ Win x) → (l = 51 ∨ Win l) → post (nI l) (nI h, qa_A B, qa_A w, qa_A a, fi)) :
    ∀ x l y, x ≤ 50 → x < l → l ≤ 51 → (∀ z, x < z → z < l → ¬ Win z) → (l = 51 ∨ Win l) → wY_threshold_28 post (nI b) (nI (a b)) (nI h) (x + 1) (nI l) (nI x) (qa_A B) (qa_A w) (qa_A (qa_up a b y)) fi := by
  intro x
  induction x with
  | zero =>
    intro l y _ h1 h2 hn hl
    refine br_t (nI_lt (a := 0) (b := 1) (by omega) (by decide)) (And.intro (vp_in_nI b8 (by decide)) (nm_r (e' := qa_A a) ?_ (hp l (by omega) h2 (fun x z => hn x (by omega)) hl)))
    rw [qa_wrx b (a b) rfl rfl (by omega), qa_up_up, qa_up_id]
  | succ x ih =>
    intro l y hx h1 h2 hn hl
    refine br_f (nI_nlt (a := x + 1) (b := 1) (by omega) (by omega)) (And.intro (vp_in_nI b8 (by decide)) (nm_r (e' := qa_A (qa_up a b (x + 1))) ?_ ?_))
    · rw [qa_wrx b (x + 1) rfl rfl (by omega), qa_up_up]
    · have ha' : ∀ j, qa_up a b (x + 1) j ≤ 50 := fun j => by
        by_cases e : j = b
        · rw [e, qa_up_s]; exact hx
        · rw [qa_up_n e]; exact ha j
      refine qy_bestA ha' hf (fun T hT => ?_)
      have T8 := hT.1.1.1
      by_cases s : T.testBit b = true
      · refine br_t ((qa_bit1 (by omega) (by omega)).mpr s) (nm_r (pk_m1 x) (ih (x + 1) (x + 1) (by omega) (by omega) (by omega) (fun z z1 z2 => absurd z2 (by omega)) (Or.inr ((hW _ T hT).mp s))))
      · refine br_f (qa_bitn1 (by omega) (by omega) (qa_nt s)) (nm_r (pk_m1 x) (ih l (x + 1) (by omega) (by omega) h2 (fun z z1 z2 => ?_) hl))
        by_cases e : z = x + 1
        · rw [e]; exact fun q => s ((hW _ T hT).mpr q)
        · exact hn z (by omega) z2
theorem qy_threshold {post : Int32 → SY → Prop} {b : Nat} (hB : ∀ j, B j < 256) (hw : ∀ j, w j < 4) (ha : ∀ j, a j ≤ 50) (b8 : b < 8) {Win : Nat → Prop}
    (hW : ∀ x T, 0 < B b → qa_Ar (qa_up a b x) B w (fun _ => True) (qa_sd 255 h) T → (T.testBit b = true ↔ Win x))
    (h0 : B b = 0 → post (-1) (nI h, qa_A B, qa_A w, qa_A a, fi))
    (h1 : 0 < B b → ∀ fi l, 1 ≤ l → l ≤ 51 → (∀ x, 1 ≤ x → x < l → ¬ Win x) → (l = 51 ∨ Win l) → post (nI l) (nI h, qa_A B, qa_A w, qa_A a, fi)) : wpY_threshold post (nI h, qa_A B, qa_A w, qa_A a, fi) (nI b) := by
  unfold wpY_threshold
  dsimp only
  refine qy_is hB b8 (fun z => br_t rfl (h0 z)) (fun z => br_f qa_10 (qy_work hB hw (fun fi hf => ?_)))
  dsimp only
  have L := qy_th28 (post := post) b8 ha hf (fun x T hT => hW x T z hT) (h1 z fi) 50 51 (a b) (by omega) (by omega) (by omega) (fun y y1 y2 => absurd y2 (by omega)) (Or.inl rfl)
  rw [qa_up_id] at L
  exact And.intro (vp_in_nI b8 (by decide)) (nm_r (qa_r8 b8) ⟨51, L⟩)
theorem qy_revenueWith {post : Int32 → SY → Prop} {b : Nat} (hB : ∀ j, B j < 256) (hw : ∀ j, w j < 4) (ha : ∀ j, a j ≤ 50) (b8 : b < 8)
    (h0 : B b = 0 → post (-1) (nI h, qa_A B, qa_A w, qa_A a, fi))
    (h1 : 0 < B b → ¬ qa_sub (B b) (qa_sd 255 h) → ∀ fi, post (-1) (nI h, qa_A B, qa_A w, qa_A a, fi))
    (h2 : 0 < B b → qa_sub (B b) (qa_sd 255 h) → ∀ fi T, qa_Al B w (qa_sd 255 h) T → T.testBit b = true → (∀ S, qa_Al B w (qa_sd 255 h) S → S.testBit b = true → qa_ms a S ≤ qa_ms a T) → post (nI (qa_sm a T)) (nI h, qa_A B, qa_A w, qa_A a, fi)) : wpY_revenueWith post (nI h, qa_A B, qa_A w, qa_A a, fi) (nI b) := by
  unfold wpY_revenueWith
  dsimp only
  refine qy_is hB b8 (fun z => br_t rfl (h0 z)) (fun z => br_f qa_10 (qy_work hB hw (fun fi hf => ?_)))
  dsimp only
  rw [qa_shl (by omega)]
  have iff : ∀ S, qa_Cd (qa_Al B w (qa_sd 255 h)) (2 ^ b) 0 S ↔ qa_Al B w (qa_sd 255 h) S ∧ S.testBit b = true := fun S => by
    constructor
    · intro c
      exact ⟨c.2.1, c.2.2.1 b (qa_powT.mpr rfl)⟩
    · intro q
      exact ⟨q.1.1, q.1, fun i hi => by rw [← qa_powT.mp hi]; exact q.2, qa_dis0 _⟩
  refine qy_best (ne := 0) ha hf (qa_powlt b8) (by decide) (fun n => ?_) (fun T c g => ?_)
  · refine br_f (by decide) (h1 z (fun s => ?_) fi)
    have q := qa_ins (w := w) a (qa_offlt h) b8 z s qa_Al0 (fun c hc => qa_zT hc)
    exact n _ ((iff _).mpr ⟨q.1, qa_orT.mpr (Or.inr (qa_powT.mpr rfl))⟩)
  · have q := (iff T).mp c
    have T8 := c.1
    refine br_t (nI_pos' (by omega)) (qy_sum T8 (h2 z (q.1.2 b q.2).1.2 fi T q.1 q.2 (fun S s1 s2 => g S ((iff S).mpr ⟨s1, s2⟩))))
theorem qa_sdsd {i : Nat} : qa_sd 255 (h ||| 2 ^ i) = qa_sd (qa_sd 255 h) (2 ^ i) := by
  refine qa_ext (fun j => ?_)
  rw [qa_sdT (by decide), qa_sdT (qa_offlt h), qa_sdT (by decide)]
  constructor
  · intro z
    have t : ¬ (h.testBit j = true ∨ (2 ^ i).testBit j = true) := fun y => qa_tf (qa_orT.mpr y) z.2
    exact ⟨⟨z.1, qa_nt (fun y => t (Or.inl y))⟩, qa_nt (fun y => t (Or.inr y))⟩
  · intro z
    refine ⟨z.1.1, qa_nt (fun y => ?_)⟩
    rcases qa_orT.mp y with q | q
    · exact qa_tf q z.1.2
    · exact qa_tf q z.2
theorem qy_price {post : Int32 → SY → Prop} {i : Nat} (hB : ∀ j, B j < 256) (hw : ∀ j, w j < 4) (ha : ∀ j, a j ≤ 50) (i8 : i < 8)
    (hp : ∀ fi T U, qa_Ar a B w (fun _ => True) (qa_sd 255 h) T → qa_Ar a B w (fun _ => True) (qa_sd (qa_sd 255 h) (2 ^ i)) U → post (nI (qa_sm a T) - nI (qa_sm a U)) (nI h, qa_A B, qa_A w, qa_A a, fi)) : wpY_price post (nI h, qa_A B, qa_A w, qa_A a, fi) (nI i) := by
  unfold wpY_price
  dsimp only
  refine br_f (nI_pos (by omega)) (br_t (nI_le (b := 7) (by omega) (by decide)) (qy_revenue hB hw ha (fun fi T hT => ?_)))
  dsimp only
  refine nm_r (e' := nI (h ||| 2 ^ i)) (by rw [qa_shl (by omega), qa_or]) (qy_revenue hB hw ha (fun fi2 U hU => ?_))
  dsimp only
  rw [qa_sdsd] at hU
  exact hp fi2 T U hT hU
theorem qy_allocation {post : Int32 → Prop} {S : Nat} (hB : ∀ j, B j < 256) (hw : ∀ j, w j < 4) (hS : S < 256) (h1 : qa_Al B w (qa_sd 255 h) S → post 1) (h0 : ¬ qa_Al B w (qa_sd 255 h) S → post 0) : wpY_allocation post (nI h, qa_A B, qa_A w, qa_A a, fi) (nI S) := by
  unfold wpY_allocation
  dsimp only
  refine br_f (nI_pos (by omega)) (br_f (nI_ge (b := 256) hS (by decide)) (qy_al hB hw hS ?_))
  by_cases A : qa_Al B w (qa_sd 255 h) S
  · exact br_f (by rw [qa_bo_t A]; exact qa_10) (h1 A)
  · exact br_t (qa_bo_f A) (h0 A)
end
end
section
/-! the component's allocation; the slot of a new bid, both sides at once -/
theorem qa_small {x : Int32} {p : Nat} (hp : p < 256) (hx : x &&& (nI p ^^^ (-1)) = 0) : ∃ S, S < 256 ∧ x = nI S ∧ qa_sub S p := by
  have e : x = nI x.toBitVec.toNat := by
    apply Int32.toBitVec_inj.1
    show x.toBitVec = BitVec.ofNat 32 x.toBitVec.toNat
    simp
  have key : ∀ i, x.toBitVec.toNat.testBit i = true → p.testBit i = true := fun i hi => by
    have h32 : i < 32 := by
      rcases Nat.lt_or_ge i 32 with z | z
      · exact z
      · have l : 2 ^ 32 ≤ 2 ^ i := Nat.pow_le_pow_right (by decide) z
        exact qa_tf hi (Nat.testBit_lt_two_pow (Nat.lt_of_lt_of_le x.toBitVec.isLt l))
    refine qa_nf (fun z => ?_)
    have b := congrArg (fun y => bt y i) hx
    rw [b_and, b_xor, b_m1 i h32, qa_btn, b_0, z, decide_eq_true h32] at b
    have bx : bt x i = true := hi
    rw [bx] at b
    exact absurd b (by decide)
  have l : x.toBitVec.toNat < 256 := Nat.lt_pow_two_of_testBit (n := 8) _ (fun i hi => qa_nt (fun z => absurd (qa_b8 hp (key i z)) (by omega)))
  exact ⟨_, l, e, key⟩
section
variable {p h wn : Nat} {kn : Int32} {bu w a be on : Nat → Nat}
theorem qx_al23 {post : Int32 → Prop} {S : Nat} (ok : qa_ok p h bu w a) (hS : S < 256) (hs : qa_sub S p) (h1 : qa_K h (qa_B p bu) w S 8 → post 1) (h0 : ¬ qa_K h (qa_B p bu) w S 8 → post 0) :
    ∀ d j It Pe, j + d = 8 → It < 256 → Pe < 256 → (∀ i, It.testBit i = true ↔ h.testBit i = true ∨ ∃ b, b < j ∧ S.testBit b = true ∧ (bu b).testBit i = true) → (∀ q, Pe.testBit q = true ↔ ∃ b, b < j ∧ S.testBit b = true ∧ w b = q) → qa_K h (qa_B p bu) w S j → wX_allocation_23 post (nI S) (nI p) (nI h) kn (nI wn) (qa_A bu) (qa_A w) (qa_A a) (qa_A be) (qa_A on) (d + 1) (nI It) (nI Pe) (nI j) := by
  have Bs : ∀ b, S.testBit b = true → qa_B p bu b = bu b := fun b hb => qa_B1 (hs b hb)
  intro d
  induction d with
  | zero =>
    intro j It Pe hj _ _ _ _ hK
    obtain rfl : j = 8 := by omega
    exact br_t (nI_le (a := 8) (b := 8) (by omega) (by decide)) (h1 hK)
  | succ d ih =>
    intro j It Pe hj hIt hPe tI tP hK
    have j8 : j < 8 := by omega
    refine br_f (nI_ge (b := 8) j8 (by decide)) ?_
    by_cases sj : S.testBit j = true
    · refine br_f (qa_bitn0 (by omega) (by omega) sj) (And.intro (vp_in_nI j8 (by decide)) ?_)
      have w4 := ok.2.2.2.1 j
      rw [qa_r8 j8, qa_r8 j8]
      by_cases hd : qa_dis It (bu j)
      · refine br_t ((qa_and0 hIt).mpr hd) (And.intro (vp_in_nI j8 (by decide)) ?_)
        by_cases hq : Pe.testBit (w j) = true
        · refine br_f (qa_bitn0 (by omega) (by omega) hq) (h0 (fun k8 => ?_))
          obtain ⟨c, c1, c2, c3⟩ := (tP (w j)).mp hq
          exact ((k8 j j8 sj).2 c c1 c2).2 c3.symm
        · refine br_t ((qa_bit0 (by omega) (by omega)).mpr (qa_nt hq)) (And.intro (vp_in_nI j8 (by decide)) (nm_r (qa_or It (bu j)) (And.intro (vp_in_nI j8 (by decide)) (nm_r (e' := nI (Pe ||| 2 ^ w j)) (by rw [qa_shl (by omega), qa_or]) (nm_r (nI_1 j) (ih (j + 1) _ _ (by omega) (qa_orlt hIt (ok.2.2.1 j)) (qa_orlt hPe (qa_powlt (by omega))) (fun i => ?_) (fun q => ?_) ?_))))))
          · rw [qa_orT, tI]
            constructor
            · rintro ((y | ⟨b, y1, y2⟩) | y)
              · exact Or.inl y
              · exact Or.inr ⟨b, by omega, y2⟩
              · exact Or.inr ⟨j, by omega, sj, y⟩
            · rintro (y | ⟨b, y1, y2, y3⟩)
              · exact Or.inl (Or.inl y)
              · by_cases e : b = j
                · rw [e] at y3; exact Or.inr y3
                · exact Or.inl (Or.inr ⟨b, by omega, y2, y3⟩)
          · rw [qa_orT, tP, qa_powT]
            constructor
            · rintro (⟨b, y1, y2⟩ | y)
              · exact ⟨b, by omega, y2⟩
              · exact ⟨j, by omega, sj, y⟩
            · rintro ⟨b, y1, y2, y3⟩
              by_cases e : b = j
              · rw [e] at y3; exact Or.inr y3
              · exact Or.inl ⟨b, by omega, y2, y3⟩
          · intro i hi si
            by_cases e : i = j
            · rw [e, Bs j sj]
              refine ⟨⟨ok.2.2.2.2.2 j (hs j sj), fun y hy => qa_nt (fun z => qa_tf hy (hd y ((tI y).mpr (Or.inl z))))⟩, fun c c1 c2 => ⟨fun y hy => qa_nt (fun z => ?_), fun e2 => hq ((tP (w j)).mpr ⟨c, c1, c2, e2.symm⟩)⟩⟩
              rw [Bs c c2] at z
              exact qa_tf hy (hd y ((tI y).mpr (Or.inr ⟨c, c1, c2, z⟩)))
            · exact hK i (by omega) si
      · refine br_f (fun y => hd ((qa_and0 hIt).mp y)) (h0 (fun k8 => hd (fun i hi => ?_)))
        have q := k8 j j8 sj
        rw [Bs j sj] at q
        refine qa_nt (fun z => ?_)
        rcases (tI i).mp hi with y | ⟨c, c1, c2, c3⟩
        · exact qa_tf y (q.1.2 i z)
        · have t := (q.2 c c1 c2).1 i z
          rw [Bs c c2] at t
          exact qa_tf c3 t
    · refine br_t ((qa_bit0 (by omega) (by omega)).mpr (qa_nt sj)) (nm_r (nI_1 j) (ih (j + 1) _ _ (by omega) hIt hPe (fun i => ?_) (fun q => ?_) ?_))
      · rw [tI]
        constructor
        · rintro (y | ⟨b, y1, y2⟩)
          · exact Or.inl y
          · exact Or.inr ⟨b, by omega, y2⟩
        · rintro (y | ⟨b, y1, y2⟩)
          · exact Or.inl y
          · have n : b ≠ j := fun e => sj (by rw [← e]; exact y2.1)
            exact Or.inr ⟨b, by omega, y2⟩
      · rw [tP]
        constructor
        · rintro ⟨b, y1, y2⟩
          exact ⟨b, by omega, y2⟩
        · rintro ⟨b, y1, y2⟩
          have n : b ≠ j := fun e => sj (by rw [← e]; exact y2.1)
          exact ⟨b, by omega, y2⟩
      · intro i hi si
        have n : i ≠ j := fun e => sj (by rw [← e]; exact si)
        exact hK i (by omega) si
theorem qx_al {post : Int32 → Prop} {S : Nat} (ok : qa_ok p h bu w a) (hS : S < 256) (hs : qa_sub S p) (h1 : qa_K h (qa_B p bu) w S 8 → post 1) (h0 : ¬ qa_K h (qa_B p bu) w S 8 → post 0) : wpX_allocation post (nI p, nI h, kn, nI wn, qa_A bu, qa_A w, qa_A a, qa_A be, qa_A on) (nI S) := by
  unfold wpX_allocation
  dsimp only
  refine br_t ((qa_an0 hS).mpr hs) ⟨9, ?_⟩
  exact qx_al23 ok hS hs h1 h0 8 0 h 0 rfl ok.2.1 (by decide) (fun i => ⟨Or.inl, fun z => z.elim id (fun ⟨b, y, _⟩ => absurd y (by omega))⟩) (fun q => ⟨fun z => qa_zT z, fun ⟨b, y, _⟩ => absurd y (by omega)⟩) (fun i hi => absurd hi (by omega))
theorem qa_BB {p : Nat} {bu : Nat → Nat} (h : ∀ j, bu j < 256) : ∀ j, qa_B p bu j < 256 := fun j => by
  cases z : p.testBit j
  · rw [qa_B0 z]; decide
  · rw [qa_B1 z]; exact h j
theorem qa_bid {fi : Nat → Int32} {x k y : Nat} (ok : qa_ok p h bu w a) (hx : x < 256) (hk : k < 4) (hy : y ≤ 50) :
    ∀ d j, j + d = 8 → (∃ b, b < 8 ∧ p.testBit b = false ∧ (∀ post : Int32 → SX → Prop, post (nI b) (nI (p ||| 2 ^ b), nI h, 0, nI wn, qa_A (qa_up bu b x), qa_A (qa_up w b k), qa_A (qa_up a b y), qa_A be, qa_A on) → wX_bid_35 post (nI x) (nI k) (nI y) (nI p) (nI h) kn (nI wn) (qa_A bu) (qa_A w) (qa_A a) (qa_A be) (qa_A on) (d + 1) (nI j)) ∧ ∀ post : Int32 → SY → Prop, post (nI b) (nI h, qa_A (qa_up (qa_B p bu) b x), qa_A (qa_up w b k), qa_A (qa_up a b y), fi) → wY_bid_36 post (nI x) (nI k) (nI y) (nI h) (qa_A (qa_B p bu)) (qa_A w) (qa_A a) fi (d + 1) (nI j)) ∨ ((∀ post : Int32 → SX → Prop, post (-2) (nI p, nI h, kn, nI wn, qa_A bu, qa_A w, qa_A a, qa_A be, qa_A on) → wX_bid_35 post (nI x) (nI k) (nI y) (nI p) (nI h) kn (nI wn) (qa_A bu) (qa_A w) (qa_A a) (qa_A be) (qa_A on) (d + 1) (nI j)) ∧ ∀ post : Int32 → SY → Prop, post (-2) (nI h, qa_A (qa_B p bu), qa_A w, qa_A a, fi) → wY_bid_36 post (nI x) (nI k) (nI y) (nI h) (qa_A (qa_B p bu)) (qa_A w) (qa_A a) fi (d + 1) (nI j)) := by
  intro d
  induction d with
  | zero =>
    intro j hj
    obtain rfl : j = 8 := by omega
    have h8 : (8 : Int32) ≤ nI 8 := nI_le (a := 8) (b := 8) (by omega) (by decide)
    exact Or.inr ⟨fun post hp => br_t h8 hp, fun post hp => br_t h8 hp⟩
  | succ d ih =>
    intro j hj
    have j8 : j < 8 := by omega
    have h8 : ¬ (8 : Int32) ≤ nI j := nI_ge (b := 8) j8 (by decide)
    have ji : vp_in (nI j) 8 := vp_in_nI j8 (by decide)
    cases z : p.testBit j with
    | false =>
      refine Or.inl ⟨j, j8, z, fun post hp => br_f h8 (qx_has ok.1 j8 (fun _ => ?_) (fun z' => qa_tf z' z)), fun post hp => br_f h8 (And.intro ji ?_)⟩
      · refine br_t rfl (nm_r (e' := nI (p ||| 2 ^ j)) (by rw [qa_shl (by omega), qa_or]) (And.intro ji (nm_r (qa_wrx j x rfl (qa_ns hx) (by omega)) (And.intro ji (nm_r (qa_wrx j k rfl (qa_nb (by omega)) (by omega)) (And.intro ji (nm_r (qa_wrx j y rfl (qa_nb (by omega)) (by omega)) hp)))))))
      · refine br_t (by rw [qa_r8 j8, qa_B0 z]; rfl) (And.intro ji (nm_r (qa_wrx j x rfl rfl (by omega)) (And.intro ji (nm_r (qa_wrx j k rfl rfl (by omega)) (And.intro ji (nm_r (qa_wrx j y rfl rfl (by omega)) hp))))))
    | true =>
      have g := ok.2.2.2.2.2 j z
      have l := ok.2.2.1 j
      have nz : ¬ qa_A (qa_B p bu) (nI j).toNatClampNeg = 0 := by
        rw [qa_r8 j8, qa_B1 z]
        exact nI_ne0 g (by omega)
      rcases ih (j + 1) (by omega) with ⟨b, b8, zb, hX, hY⟩ | ⟨hX, hY⟩
      · exact Or.inl ⟨b, b8, zb, fun post hp => br_f h8 (qx_has ok.1 j8 (fun z' => qa_tf z z') (fun _ => br_f qa_10 (nm_r (nI_1 j) (hX post hp)))), fun post hp => br_f h8 (And.intro ji (br_f nz (nm_r (nI_1 j) (hY post hp))))⟩
      · exact Or.inr ⟨fun post hp => br_f h8 (qx_has ok.1 j8 (fun z' => qa_tf z z') (fun _ => br_f qa_10 (nm_r (nI_1 j) (hX post hp)))), fun post hp => br_f h8 (And.intro ji (br_f nz (nm_r (nI_1 j) (hY post hp))))⟩
end
end
section
/-! the relation, and the calls that change the bids -/
def qa_Rel (u : SX) (v : SY) : Prop := ∃ (p h wn : Nat) (kn : Int32) (bu w a be on : Nat → Nat) (fi : Nat → Int32), u = (nI p, nI h, kn, nI wn, qa_A bu, qa_A w, qa_A a, qa_A be, qa_A on) ∧ v = (nI h, qa_A (qa_B p bu), qa_A w, qa_A a, fi) ∧ qa_ok p h bu w a ∧ (kn = 0 ∨ (kn = 1 ∧ qa_Tab a (qa_B p bu) w h be on wn))
/-- the relation at the head of a turn whose first cell is k: (u : SX) is (f_present, f_withheldSet, f_known, f_winnerSet, a_bundles, a_bidders, a_amounts, a_before, a_onward), (v : SY) is (f_shut, a_bundle, a_who, a_offer, a_fine) -/
def i_Rel (k : Nat) (u : SX) (v : SY) : Prop := qa_Rel u v
theorem i_up {k : Nat} {u : SX} {v : SY} (h : i_Rel k u v) : i_Rel (k + 4) u v := h
theorem qa_B00 : qa_B 0 (fun _ => 0) = fun _ => 0 := by
  funext j
  exact qa_B0 (Nat.zero_testBit j)
theorem i_vc0 : wpX_init (fun u => wpY_init (fun v => i_Rel 0 u v)) := by
  show qa_Rel _ _
  refine ⟨0, 0, 0, 0, fun _ => 0, fun _ => 0, fun _ => 0, fun _ => 0, fun _ => 0, fun _ => 0, rfl, ?_, ⟨by decide, by decide, fun _ => (by decide : 0 < 256), fun _ => (by decide : 0 < 4), fun _ => (by decide : 0 ≤ 50), fun j z => qa_zT z⟩, Or.inl rfl⟩
  rw [qa_B00]
  rfl
section
variable {p h wn : Nat} {kn : Int32} {bu w a be on : Nat → Nat}
theorem qa_mkR {fi : Nat → Int32} (ok : qa_ok p h bu w a) (hkn : kn = 0 ∨ (kn = 1 ∧ qa_Tab a (qa_B p bu) w h be on wn)) : qa_Rel (nI p, nI h, kn, nI wn, qa_A bu, qa_A w, qa_A a, qa_A be, qa_A on) (nI h, qa_A (qa_B p bu), qa_A w, qa_A a, fi) := ⟨p, h, wn, kn, bu, w, a, be, on, fi, rfl, rfl, ok, hkn⟩
theorem qa_Bup {b x : Nat} : qa_up (qa_B p bu) b x = qa_B (p ||| 2 ^ b) (qa_up bu b x) := by
  funext i
  by_cases e : i = b
  · rw [e, qa_up_s, qa_B1 (qa_orT.mpr (Or.inr (qa_powT.mpr rfl))), qa_up_s]
  · rw [qa_up_n e]
    cases z : p.testBit i with
    | true => rw [qa_B1 z, qa_B1 (qa_orT.mpr (Or.inl z)), qa_up_n e]
    | false => rw [qa_B0 z, qa_B0 (qa_nt (fun y => (qa_orT.mp y).elim (fun q => qa_tf q z) (fun q => e (qa_powT.mp q).symm)))]
theorem qa_Bdel {b : Nat} (hp : p < 256) : qa_up (qa_B p bu) b 0 = qa_B (qa_sd p (2 ^ b)) bu := by
  funext i
  by_cases e : i = b
  · rw [e, qa_up_s, qa_B0 (qa_nt (fun y => ((qa_pdel hp).mp y).2 rfl))]
  · rw [qa_up_n e]
    cases z : p.testBit i with
    | true => rw [qa_B1 z, qa_B1 ((qa_pdel hp).mpr ⟨z, Ne.symm e⟩)]
    | false => rw [qa_B0 z, qa_B0 (qa_nt (fun y => qa_tf ((qa_pdel hp).mp y).1 z))]
theorem qa_upb {f : Nat → Nat} {b x : Nat} {P : Nat → Prop} (hf : ∀ j, P (f j)) (hx : P x) : ∀ j, P (qa_up f b x j) := fun j => by
  by_cases e : j = b
  · rw [e, qa_up_s]; exact hx
  · rw [qa_up_n e]; exact hf j
theorem qa_ok_bid {b x k y : Nat} (ok : qa_ok p h bu w a) (b8 : b < 8) (h1 : 1 ≤ x) (hx : x < 256) (hk : k < 4) (hy : y ≤ 50) : qa_ok (p ||| 2 ^ b) h (qa_up bu b x) (qa_up w b k) (qa_up a b y) := by
  refine ⟨qa_orlt ok.1 (qa_powlt b8), ok.2.1, qa_upb (P := fun z => z < 256) ok.2.2.1 hx, qa_upb (P := fun z => z < 4) ok.2.2.2.1 hk, qa_upb (P := fun z => z ≤ 50) ok.2.2.2.2.1 hy, fun j hj => ?_⟩
  by_cases e : j = b
  · rw [e, qa_up_s]; omega
  · rw [qa_up_n e]
    exact ok.2.2.2.2.2 j ((qa_orT.mp hj).elim id (fun q => absurd (qa_powT.mp q).symm e))
end
theorem qa_rng {x M : Int32} {N : Nat} (hM : M.toInt = N) (h1 : ¬ x < 1) (h2 : ¬ M ≤ x) : ∃ n, 1 ≤ n ∧ n < N ∧ x = nI n := by
  have e1 : (1 : Int32).toInt = 1 := by decide
  have e0 : (0 : Int32).toInt = 0 := by decide
  rw [Int32.lt_iff_toInt_lt, e1] at h1
  rw [Int32.le_iff_toInt_le, hM] at h2
  obtain ⟨n, hn, rfl⟩ := nI_of (x := x) (by rw [Int32.lt_iff_toInt_lt, e0]; omega)
  rw [nI_toInt hn] at h1 h2
  exact ⟨n, by omega, by omega, rfl⟩
theorem qa_rng50 {x : Int32} (h1 : ¬ x < 1) (h2 : x ≤ 50) : ∃ n, 1 ≤ n ∧ n ≤ 50 ∧ x = nI n := by
  obtain ⟨n, a, b, c⟩ := qa_rng (x := x) (M := 51) (N := 51) (by decide) h1 (by
    have e1 : (50 : Int32).toInt = 50 := by decide
    have e2 : (51 : Int32).toInt = 51 := by decide
    rw [Int32.le_iff_toInt_le, e1] at h2
    rw [Int32.le_iff_toInt_le, e2]
    omega)
  exact ⟨n, a, by omega, c⟩
theorem qa_255lt {x : Int32} : 255 < x ↔ 256 ≤ x := by
  have e1 : (255 : Int32).toInt = 255 := by decide
  have e2 : (256 : Int32).toInt = 256 := by decide
  rw [Int32.lt_iff_toInt_lt, Int32.le_iff_toInt_le, e1, e2]
  omega
theorem qa_8lt {x : Int32} : x < 8 ↔ x ≤ 7 := by
  have e1 : (8 : Int32).toInt = 8 := by decide
  have e2 : (7 : Int32).toInt = 7 := by decide
  rw [Int32.lt_iff_toInt_lt, Int32.le_iff_toInt_le, e1, e2]
  omega
theorem i_vc_bid {k : Nat} {u : SX} {v : SY} (I : i_Rel k u v) (hk : k + 4 ≤ 2048) (v1 : Int32) (v2 : Int32) (v3 : Int32) : wpX_bid (fun r u' => wpY_bid (fun r' v' => r' = r ∧ i_Rel (k + 4) u' v') v v1 v2 v3) u v1 v2 v3 := by
  obtain ⟨p, h, wn, kn, bu, w, a, be, on, fi, rfl, rfl, ok, hkn⟩ := I
  have R := qa_mkR (fi := fi) ok hkn
  unfold wpX_bid
  dsimp only
  by_cases c1 : v1 < 1
  · exact br_t c1 (br_t c1 ⟨rfl, R⟩)
  · refine br_f c1 ?_
    by_cases c2 : (256 : Int32) ≤ v1
    · exact br_t c2 (br_f c1 (br_t (qa_255lt.mpr c2) ⟨rfl, R⟩))
    · refine br_f c2 ?_
      have c2' : ¬ (255 : Int32) < v1 := fun z => c2 (qa_255lt.mp z)
      rcases pk_ix v2 (n := 4) (by decide) with z | z | ⟨q, hq, rfl⟩
      · exact qx_isBN (Or.inl z) (br_t rfl (br_f c1 (br_f c2' (qy_isBN (Or.inl z) (br_t rfl ⟨rfl, R⟩)))))
      · exact qx_isBN (Or.inr z) (br_t rfl (br_f c1 (br_f c2' (qy_isBN (Or.inr z) (br_t rfl ⟨rfl, R⟩)))))
      · refine qx_isB hq (br_f qa_10 ?_)
        by_cases c3 : v3 < 1
        · exact br_t c3 (br_f c1 (br_f c2' (qy_isB hq (br_f qa_10 (br_t c3 ⟨rfl, R⟩)))))
        · refine br_f c3 ?_
          by_cases c4 : v3 ≤ 50
          · obtain ⟨x, x1, x2, rfl⟩ := qa_rng (M := 256) (N := 256) (by decide) c1 c2
            obtain ⟨y, y1, y2, rfl⟩ := qa_rng50 c3 c4
            refine br_t c4 ⟨9, ?_⟩
            rcases qa_bid (kn := kn) (wn := wn) (be := be) (on := on) (fi := fi) (x := x) (k := q) (y := y) ok x2 hq y2 8 0 rfl with ⟨b, b8, zb, hX, hY⟩ | ⟨hX, hY⟩
            · refine hX _ (br_f c1 (br_f c2' (qy_isB hq (br_f qa_10 (br_f c3 (br_t c4 ⟨9, hY _ ⟨rfl, ?_⟩⟩))))))
              rw [qa_Bup]
              exact qa_mkR (qa_ok_bid ok b8 x1 x2 hq y2) (Or.inl rfl)
            · exact hX _ (br_f c1 (br_f c2' (qy_isB hq (br_f qa_10 (br_f c3 (br_t c4 ⟨9, hY _ ⟨rfl, R⟩⟩))))))
          · exact br_f c4 (br_f c1 (br_f c2' (qy_isB hq (br_f qa_10 (br_f c3 (br_f c4 ⟨rfl, R⟩))))))
theorem i_vc_retract {k : Nat} {u : SX} {v : SY} (I : i_Rel k u v) (hk : k + 4 ≤ 2048) (v1 : Int32) : wpX_retract (fun r u' => wpY_retract (fun r' v' => r' = r ∧ i_Rel (k + 4) u' v') v v1) u v1 := by
  obtain ⟨p, h, wn, kn, bu, w, a, be, on, fi, rfl, rfl, ok, hkn⟩ := I
  have R := qa_mkR (fi := fi) ok hkn
  have hB := qa_BB (p := p) ok.2.2.1
  unfold wpX_retract wpY_retract
  dsimp only
  rcases pk_ix v1 (n := 8) (by decide) with z | z | ⟨b, b8, rfl⟩
  · exact qx_hasN (Or.inl z) (br_t rfl (qy_isN (Or.inl z) (br_t rfl ⟨rfl, R⟩)))
  · exact qx_hasN (Or.inr z) (br_t rfl (qy_isN (Or.inr z) (br_t rfl ⟨rfl, R⟩)))
  · refine qx_has ok.1 b8 (fun z => br_t rfl (qy_is hB b8 (fun _ => br_t rfl ⟨rfl, R⟩) (fun y => qa_tf (qa_Bp y) z))) (fun z => br_f qa_10 (nm_r (e' := nI (qa_sd p (2 ^ b))) (by rw [qa_shl (by omega), qa_an ok.1]) (qy_is hB b8 (fun y => ?_) (fun y => ?_))))
    · have g := ok.2.2.2.2.2 b z
      rw [qa_B1 z] at y
      omega
    · refine br_f qa_10 (And.intro (vp_in_nI b8 (by decide)) (nm_r (qa_wrx b 0 rfl rfl (by omega)) ⟨rfl, ?_⟩))
      rw [qa_Bdel ok.1]
      exact qa_mkR ⟨qa_sdlt ok.1, ok.2.1, ok.2.2.1, ok.2.2.2.1, ok.2.2.2.2.1, fun j hj => ok.2.2.2.2.2 j ((qa_pdel ok.1).mp hj).1⟩ (Or.inl rfl)
theorem i_vc_raise {k : Nat} {u : SX} {v : SY} (I : i_Rel k u v) (hk : k + 4 ≤ 2048) (v1 : Int32) (v2 : Int32) : wpX_raise (fun r u' => wpY_raise (fun r' v' => r' = r ∧ i_Rel (k + 4) u' v') v v1 v2) u v1 v2 := by
  obtain ⟨p, h, wn, kn, bu, w, a, be, on, fi, rfl, rfl, ok, hkn⟩ := I
  have R := qa_mkR (fi := fi) ok hkn
  have hB := qa_BB (p := p) ok.2.2.1
  unfold wpX_raise wpY_raise
  dsimp only
  rcases pk_ix v1 (n := 8) (by decide) with z | z | ⟨b, b8, rfl⟩
  · exact qx_hasN (Or.inl z) (br_t rfl (qy_isN (Or.inl z) (br_t rfl ⟨rfl, R⟩)))
  · exact qx_hasN (Or.inr z) (br_t rfl (qy_isN (Or.inr z) (br_t rfl ⟨rfl, R⟩)))
  · refine qx_has ok.1 b8 (fun z => br_t rfl (qy_is hB b8 (fun _ => br_t rfl ⟨rfl, R⟩) (fun y => qa_tf (qa_Bp y) z))) (fun z => br_f qa_10 ?_)
    have g : 0 < qa_B p bu b := by rw [qa_B1 z]; exact ok.2.2.2.2.2 b z
    by_cases c3 : v2 < 1
    · exact br_t c3 (qy_is hB b8 (fun y => absurd y (by omega)) (fun y => br_f qa_10 (br_t c3 ⟨rfl, R⟩)))
    · refine br_f c3 ?_
      by_cases c4 : v2 ≤ 50
      · obtain ⟨y, y1, y2, rfl⟩ := qa_rng50 c3 c4
        refine br_t c4 (And.intro (vp_in_nI b8 (by decide)) (nm_r (qa_wrx b y rfl (qa_nb (by omega)) (by omega)) (qy_is hB b8 (fun y => absurd y (by omega)) (fun _ => br_f qa_10 (br_f c3 (br_t c4 (And.intro (vp_in_nI b8 (by decide)) (nm_r (qa_wrx b y rfl rfl (by omega)) ⟨rfl, ?_⟩))))))))
        exact qa_mkR ⟨ok.1, ok.2.1, ok.2.2.1, ok.2.2.2.1, qa_upb (P := fun z => z ≤ 50) ok.2.2.2.2.1 y2, ok.2.2.2.2.2⟩ (Or.inl rfl)
      · exact br_f c4 (qy_is hB b8 (fun y => absurd y (by omega)) (fun y => br_f qa_10 (br_f c3 (br_f c4 ⟨rfl, R⟩))))
theorem i_vc_withhold {k : Nat} {u : SX} {v : SY} (I : i_Rel k u v) (hk : k + 4 ≤ 2048) (v1 : Int32) (v2 : Int32) : wpX_withhold (fun r u' => wpY_withhold (fun r' v' => r' = r ∧ i_Rel (k + 4) u' v') v v1 (lw_bz v2)) u v1 (lw_bz v2) := by
  obtain ⟨p, h, wn, kn, bu, w, a, be, on, fi, rfl, rfl, ok, hkn⟩ := I
  have R := qa_mkR (fi := fi) ok hkn
  unfold wpX_withhold wpY_withhold
  dsimp only
  generalize lw_bz v2 = s
  rcases pk_ix v1 (n := 8) (by decide) with z | z | ⟨i, i8, rfl⟩
  · exact br_t z (br_t z ⟨rfl, R⟩)
  · by_cases n : v1 < 0
    · exact br_t n (br_t n ⟨rfl, R⟩)
    · have n8 : ¬ v1 < 8 := fun y => absurd z (Int32.not_le.mpr y)
      exact br_f n (br_f n8 (br_f n (br_f (fun y => n8 (qa_8lt.mpr y)) ⟨rfl, R⟩)))
  · have n : ¬ nI i < 0 := nI_pos (by omega)
    have l8 : nI i < 8 := nI_lt (b := 8) i8 (by decide)
    refine br_f n (br_t l8 ?_)
    rw [qa_shl (by omega), qa_an ok.2.1, qa_or]
    by_cases c : s = 0
    · refine br_t c (nm_e (br_f n (br_t (qa_8lt.mp l8) (br_t c (nm_e ⟨rfl, ?_⟩)))))
      exact qa_mkR ⟨ok.1, qa_sdlt ok.2.1, ok.2.2⟩ (Or.inl rfl)
    · refine br_f c (nm_e (br_f n (br_t (qa_8lt.mp l8) (br_f c (nm_e ⟨rfl, ?_⟩)))))
      exact qa_mkR ⟨ok.1, qa_orlt ok.2.1 (qa_powlt i8), ok.2.2⟩ (Or.inl rfl)
end
section
/-! the calls that answer -/
section
variable {p h wn : Nat} {kn : Int32} {bu w a be on : Nat → Nat}
theorem qa_Tst {wn' : Nat} {be' on' : Nat → Nat} {fi : Nat → Int32} (ok : qa_ok p h bu w a) (t : qa_Tab a (qa_B p bu) w h be' on' wn') : qa_Rel (nI p, nI h, 1, nI wn', qa_A bu, qa_A w, qa_A a, qa_A be', qa_A on') (nI h, qa_A (qa_B p bu), qa_A w, qa_A a, fi) := qa_mkR ok (Or.inr ⟨rfl, t⟩)
end
theorem i_vc_bids {k : Nat} {u : SX} {v : SY} (I : i_Rel k u v) (hk : k + 4 ≤ 2048) : wpX_bids (fun r => wpY_bids (fun r' => r' = r ∧ i_Rel (k + 4) u v) v) u := by
  obtain ⟨p, h, wn, kn, bu, w, a, be, on, fi, rfl, rfl, ok, hkn⟩ := I
  have R := qa_mkR (fi := fi) ok hkn
  unfold wpX_bids
  dsimp only
  refine qy_bids (qa_BB ok.2.2.1) (fun O hO hT => ⟨congrArg nI (qa_ext (fun i => ?_)), R⟩)
  rw [hT]
  constructor
  · intro z; exact qa_Bp z.2
  · intro z
    exact ⟨qa_b8 ok.1 z, by rw [qa_B1 z]; exact ok.2.2.2.2.2 i z⟩
theorem i_vc_withheld {k : Nat} {u : SX} {v : SY} (I : i_Rel k u v) (hk : k + 4 ≤ 2048) : wpX_withheld (fun r => wpY_withheld (fun r' => r' = r ∧ i_Rel (k + 4) u v) v) u := by
  obtain ⟨p, h, wn, kn, bu, w, a, be, on, fi, rfl, rfl, ok, hkn⟩ := I
  exact ⟨rfl, qa_mkR ok hkn⟩
theorem i_vc_winners {k : Nat} {u : SX} {v : SY} (I : i_Rel k u v) (hk : k + 4 ≤ 2048) : wpX_winners (fun r u' => wpY_winners (fun r' v' => r' = r ∧ i_Rel (k + 4) u' v') v) u := by
  obtain ⟨p, h, wn, kn, bu, w, a, be, on, fi, rfl, rfl, ok, hkn⟩ := I
  have hB := qa_BB (p := p) ok.2.2.1
  refine qx_winners ok hkn (fun wn' be' on' t => ?_)
  refine qy_winners hB ok.2.2.2.1 ok.2.2.2.2.1 (fun fi' T hT => ⟨congrArg nI (qa_ar_uniq hT t.2.2), qa_Tst ok t⟩)
theorem i_vc_revenue {k : Nat} {u : SX} {v : SY} (I : i_Rel k u v) (hk : k + 4 ≤ 2048) : wpX_revenue (fun r u' => wpY_revenue (fun r' v' => r' = r ∧ i_Rel (k + 4) u' v') v) u := by
  obtain ⟨p, h, wn, kn, bu, w, a, be, on, fi, rfl, rfl, ok, hkn⟩ := I
  have hB := qa_BB (p := p) ok.2.2.1
  refine qx_revenueA ok hkn (fun wn' be' on' t => ?_)
  refine qy_revenue hB ok.2.2.2.1 ok.2.2.2.2.1 (fun fi' T hT => ⟨?_, qa_Tst ok t⟩)
  rw [qa_ar_uniq hT t.2.2]
theorem i_vc_sold {k : Nat} {u : SX} {v : SY} (I : i_Rel k u v) (hk : k + 4 ≤ 2048) : wpX_sold (fun r u' => wpY_sold (fun r' v' => r' = r ∧ i_Rel (k + 4) u' v') v) u := by
  obtain ⟨p, h, wn, kn, bu, w, a, be, on, fi, rfl, rfl, ok, hkn⟩ := I
  have hB := qa_BB (p := p) ok.2.2.1
  refine qx_sold ok hkn (fun wn' be' on' t => ?_)
  refine qy_sold hB ok.2.2.2.1 ok.2.2.2.2.1 (fun fi' T hT => ⟨congrArg nI ?_, qa_Tst ok t⟩)
  rw [qa_ar_uniq hT t.2.2]
  exact qa_un_c (fun i hi => qa_B1 (qa_Bp (t.2.2.1.1.2 i hi).1.1)) 8 0
theorem i_vc_revenueWithout {k : Nat} {u : SX} {v : SY} (I : i_Rel k u v) (hk : k + 4 ≤ 2048) (v1 : Int32) : wpX_revenueWithout (fun r u' => wpY_revenueWithout (fun r' v' => r' = r ∧ i_Rel (k + 4) u' v') v v1) u v1 := by
  obtain ⟨p, h, wn, kn, bu, w, a, be, on, fi, rfl, rfl, ok, hkn⟩ := I
  have hB := qa_BB (p := p) ok.2.2.1
  have R := qa_mkR (fi := fi) ok hkn
  rcases pk_ix v1 (n := 4) (by decide) with z | z | ⟨q, hq, rfl⟩
  · unfold wpX_revenueWithout wpY_revenueWithout
    exact qx_isBN (Or.inl z) (br_t rfl (qy_isBN (Or.inl z) (br_t rfl ⟨rfl, R⟩)))
  · unfold wpX_revenueWithout wpY_revenueWithout
    exact qx_isBN (Or.inr z) (br_t rfl (qy_isBN (Or.inr z) (br_t rfl ⟨rfl, R⟩)))
  · refine qx_revenueWithout ok hkn hq (fun wn' be' on' t m hm => ?_)
    refine qy_revenueWithout hB ok.2.2.2.1 ok.2.2.2.2.1 hq (fun fi' T hT => ⟨congrArg nI ?_, qa_Tst ok t⟩)
    rw [qa_ar_mx hT hm, qa_div hT.1.1.1]
theorem i_vc_payment {k : Nat} {u : SX} {v : SY} (I : i_Rel k u v) (hk : k + 4 ≤ 2048) (v1 : Int32) : wpX_payment (fun r u' => wpY_payment (fun r' v' => r' = r ∧ i_Rel (k + 4) u' v') v v1) u v1 := by
  obtain ⟨p, h, wn, kn, bu, w, a, be, on, fi, rfl, rfl, ok, hkn⟩ := I
  have hB := qa_BB (p := p) ok.2.2.1
  have R := qa_mkR (fi := fi) ok hkn
  rcases pk_ix v1 (n := 4) (by decide) with z | z | ⟨q, hq, rfl⟩
  · unfold wpX_payment wpY_payment
    exact qx_isBN (Or.inl z) (br_t rfl (qy_isBN (Or.inl z) (br_t rfl ⟨rfl, R⟩)))
  · unfold wpX_payment wpY_payment
    exact qx_isBN (Or.inr z) (br_t rfl (qy_isBN (Or.inr z) (br_t rfl ⟨rfl, R⟩)))
  · refine qx_payment ok hkn hq (fun wn' be' on' t n => ?_) (fun T hT b hb e wn' be' on' t m hm => ?_)
    · refine qy_payment hB ok.2.2.2.1 ok.2.2.2.2.1 hq (fun fi' T' hT' n' => ⟨rfl, qa_Tst ok t⟩) (fun fi' T' b' U hT' hb' e' hU => ?_)
      rw [qa_ar_uniq hT' t.2.2] at hb'
      exact absurd e' (n b' hb')
    · refine qy_payment hB ok.2.2.2.1 ok.2.2.2.2.1 hq (fun fi' T' hT' n' => ?_) (fun fi' T' b' U hT' hb' e' hU => ?_)
      · rw [qa_ar_uniq hT' hT] at n'
        exact absurd e (n' b hb)
      · have eT := qa_ar_uniq hT' hT
        rw [eT] at hb'
        have eb : b' = b := by
          by_cases y : b' = b
          · exact y
          · exact absurd (e.trans e'.symm) ((hT.1.1.2 b hb).2 b' hb' y).2
        refine ⟨?_, qa_Tst ok t⟩
        rw [eT, eb, qa_ar_mx hU hm, qa_div hU.1.1.1]
theorem i_vc_threshold {k : Nat} {u : SX} {v : SY} (I : i_Rel k u v) (hk : k + 4 ≤ 2048) (v1 : Int32) : wpX_threshold (fun r u' => wpY_threshold (fun r' v' => r' = r ∧ i_Rel (k + 4) u' v') v v1) u v1 := by
  obtain ⟨p, h, wn, kn, bu, w, a, be, on, fi, rfl, rfl, ok, hkn⟩ := I
  have hB := qa_BB (p := p) ok.2.2.1
  have R := qa_mkR (fi := fi) ok hkn
  rcases pk_ix v1 (n := 8) (by decide) with z | z | ⟨b, b8, rfl⟩
  · unfold wpX_threshold wpY_threshold
    exact qx_hasN (Or.inl z) (br_t rfl (qy_isN (Or.inl z) (br_t rfl ⟨rfl, R⟩)))
  · unfold wpX_threshold wpY_threshold
    exact qx_hasN (Or.inr z) (br_t rfl (qy_isN (Or.inr z) (br_t rfl ⟨rfl, R⟩)))
  · refine qx_threshold ok hkn b8 (fun z => ?_) (fun z hd => ?_) (fun z hd wn' be' on' t mw mo hw ho l l1 l2 l3 l4 => ?_)
    · exact qy_threshold (Win := fun _ => False) hB ok.2.2.2.1 ok.2.2.2.2.1 b8 (fun x T g => qa_tf (qa_Bp g) z) (fun _ => ⟨rfl, R⟩) (fun g => qa_tf (qa_Bp g) z)
    · have Bb := qa_B1 (bu := bu) z
      have ns : ¬ qa_sub (qa_B p bu b) (qa_sd 255 h) := fun s => hd (by rw [Bb] at s; exact (qa_subh (ok.2.2.1 b)).mp s)
      refine qy_threshold (Win := fun _ => False) hB ok.2.2.2.1 ok.2.2.2.2.1 b8 (fun x T g hT => ⟨fun y => qa_lose ns hT y, fun y => y.elim⟩) (fun e => ?_) (fun g fi' l l1 l2 l3 l4 => ⟨?_, qa_mkR ok hkn⟩)
      · have := ok.2.2.2.2.2 b z
        omega
      · rw [l4.resolve_right (fun y => y)]; rfl
    · have Bb := qa_B1 (bu := bu) z
      have s : qa_sub (qa_B p bu b) (qa_sd 255 h) := by rw [Bb]; exact (qa_subh (ok.2.2.1 b)).mpr hd
      rw [← Bb] at hw
      refine qy_threshold (Win := fun x => mo < x * 256 + 2 ^ (7 - b) + mw) hB ok.2.2.2.1 ok.2.2.2.2.1 b8 (fun x T g hT => qa_win (qa_offlt h) b8 g s hw ho hT) (fun e => ?_) (fun g fi' l' m1 m2 m3 m4 => ⟨congrArg nI ?_, qa_Tst ok t⟩)
      · have := ok.2.2.2.2.2 b z
        omega
      · rcases Nat.lt_trichotomy l' l with y | y | y
        · exact absurd (m4.resolve_left (by omega)) (l3 l' m1 y)
        · exact y
        · exact absurd (l4.resolve_left (by omega)) (m3 l l1 y)
theorem i_vc_revenueWith {k : Nat} {u : SX} {v : SY} (I : i_Rel k u v) (hk : k + 4 ≤ 2048) (v1 : Int32) : wpX_revenueWith (fun r u' => wpY_revenueWith (fun r' v' => r' = r ∧ i_Rel (k + 4) u' v') v v1) u v1 := by
  obtain ⟨p, h, wn, kn, bu, w, a, be, on, fi, rfl, rfl, ok, hkn⟩ := I
  have hB := qa_BB (p := p) ok.2.2.1
  have R := qa_mkR (fi := fi) ok hkn
  rcases pk_ix v1 (n := 8) (by decide) with z | z | ⟨b, b8, rfl⟩
  · unfold wpX_revenueWith wpY_revenueWith
    exact qx_hasN (Or.inl z) (br_t rfl (qy_isN (Or.inl z) (br_t rfl ⟨rfl, R⟩)))
  · unfold wpX_revenueWith wpY_revenueWith
    exact qx_hasN (Or.inr z) (br_t rfl (qy_isN (Or.inr z) (br_t rfl ⟨rfl, R⟩)))
  · refine qx_revenueWith ok hkn b8 (fun z => ?_) (fun z hd => ?_) (fun z hd wn' be' on' t mw hw => ?_)
    · exact qy_revenueWith hB ok.2.2.2.1 ok.2.2.2.2.1 b8 (fun _ => ⟨rfl, R⟩) (fun g => qa_tf (qa_Bp g) z) (fun g => qa_tf (qa_Bp g) z)
    · have Bb := qa_B1 (bu := bu) z
      refine qy_revenueWith hB ok.2.2.2.1 ok.2.2.2.2.1 b8 (fun _ => ⟨rfl, R⟩) (fun _ _ fi' => ⟨rfl, qa_mkR ok hkn⟩) (fun g s => ?_)
      exact absurd (by rw [Bb] at s; exact (qa_subh (ok.2.2.1 b)).mp s) hd
    · have Bb := qa_B1 (bu := bu) z
      have s : qa_sub (qa_B p bu b) (qa_sd 255 h) := by rw [Bb]; exact (qa_subh (ok.2.2.1 b)).mpr hd
      rw [← Bb] at hw
      have g := ok.2.2.2.2.2 b z
      refine qy_revenueWith hB ok.2.2.2.1 ok.2.2.2.2.1 b8 (fun e => ?_) (fun _ n => absurd s n) (fun g s fi' T hT hb hm => ⟨congrArg nI (qa_with (qa_offlt h) b8 g s hw hT hb hm), qa_Tst ok t⟩)
      rw [Bb] at e
      omega
theorem i_vc_price {k : Nat} {u : SX} {v : SY} (I : i_Rel k u v) (hk : k + 4 ≤ 2048) (v1 : Int32) : wpX_price (fun r u' => wpY_price (fun r' v' => r' = r ∧ i_Rel (k + 4) u' v') v v1) u v1 := by
  obtain ⟨p, h, wn, kn, bu, w, a, be, on, fi, rfl, rfl, ok, hkn⟩ := I
  have hB := qa_BB (p := p) ok.2.2.1
  have R := qa_mkR (fi := fi) ok hkn
  rcases pk_ix v1 (n := 8) (by decide) with z | z | ⟨i, i8, rfl⟩
  · unfold wpX_price wpY_price
    exact br_t z (br_t z ⟨rfl, R⟩)
  · unfold wpX_price wpY_price
    by_cases n : v1 < 0
    · exact br_t n (br_t n ⟨rfl, R⟩)
    · have n8 : ¬ v1 < 8 := fun y => absurd z (Int32.not_le.mpr y)
      exact br_f n (br_f n8 (br_f n (br_f (fun y => n8 (qa_8lt.mpr y)) ⟨rfl, R⟩)))
  · refine qx_price ok hkn i8 (fun wn' be' on' t T m hT hm => ?_)
    refine qy_price hB ok.2.2.2.1 ok.2.2.2.2.1 i8 (fun fi' T' U hT' hU => ⟨?_, qa_Tst ok t⟩)
    rw [qa_ar_uniq hT' hT, qx_best4 ok.2.2.2.1 hm hU]
theorem i_vc_allocation {k : Nat} {u : SX} {v : SY} (I : i_Rel k u v) (hk : k + 4 ≤ 2048) (v1 : Int32) : wpX_allocation (fun r => wpY_allocation (fun r' => r' = r ∧ i_Rel (k + 4) u v) v v1) u v1 := by
  obtain ⟨p, h, wn, kn, bu, w, a, be, on, fi, rfl, rfl, ok, hkn⟩ := I
  have hB := qa_BB (p := p) ok.2.2.1
  have R := qa_mkR (fi := fi) ok hkn
  by_cases c : v1 &&& (nI p ^^^ (-1)) = 0
  · obtain ⟨S, hS, rfl, hs⟩ := qa_small ok.1 c
    refine qx_al ok hS hs (fun K => ?_) (fun K => ?_)
    · exact qy_allocation hB ok.2.2.2.1 hS (fun _ => ⟨rfl, R⟩) (fun n => absurd ((qa_K8 hB hS).mp K) n)
    · exact qy_allocation hB ok.2.2.2.1 hS (fun A => absurd ((qa_K8 hB hS).mpr A) K) (fun _ => ⟨rfl, R⟩)
  · unfold wpX_allocation
    dsimp only
    refine br_f c ?_
    rcases pk_ix v1 (n := 256) (by decide) with z | z | ⟨S, hS, rfl⟩
    · unfold wpY_allocation
      exact br_t z ⟨rfl, R⟩
    · unfold wpY_allocation
      by_cases n : v1 < 0
      · exact br_t n ⟨rfl, R⟩
      · exact br_f n (br_t z ⟨rfl, R⟩)
    · refine qy_allocation hB ok.2.2.2.1 hS (fun A => ?_) (fun _ => ⟨rfl, R⟩)
      exact absurd ((qa_an0 hS).mpr (fun i hi => qa_Bp (A.2 i hi).1.1)) c
end
