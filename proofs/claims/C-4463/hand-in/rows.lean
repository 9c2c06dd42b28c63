section
/-! rows taken from kit/rows (starting text) -/
theorem pk_us {f : Nat → Int32} {k : Nat} {x : Int32} : upd f k x k = x := if_pos rfl
theorem pk_un {f : Nat → Int32} {k j : Nat} {x : Int32} (h : j ≠ k) : upd f k x j = f j := if_neg h
theorem pk_sub {a b : Nat} (h : b ≤ a) : nI a - nI b = nI (a - b) := by
  obtain ⟨c, rfl⟩ : ∃ c, a = c + b := ⟨a - b, by omega⟩
  rw [← nI_add, Int32.add_sub_cancel, Nat.add_sub_cancel]
theorem pk_m1 (n : Nat) : nI (n + 1) + (-1) = nI n := by
  rw [← nI_1, Int32.add_assoc, show (1 : Int32) + (-1) = 0 from rfl, Int32.add_zero]
theorem pk_mul (a b : Nat) : nI a * nI b = nI (a * b) := (Int32.ofNat_mul a b).symm
theorem pk_div {a d : Nat} (ha : a < 2 ^ 31) (h0 : 0 < d) (hd : d < 2 ^ 31) : nI a / nI d = nI (a / d) := by
  apply Int32.toInt_inj.mp
  rw [lg_idiv_nonneg (by rw [nI_toInt ha]; omega) (by rw [nI_toInt hd]; omega), nI_toInt ha, nI_toInt hd, nI_toInt (Nat.lt_of_le_of_lt (Nat.div_le_self a d) ha)]
  first | rfl | exact (Int.natCast_ediv _ _).symm
theorem pk_rem {a d : Nat} (ha : a < 2 ^ 31) (h0 : 0 < d) (hd : d < 2 ^ 31) : nI a - nI a / nI d * nI d = nI (a % d) := by
  rw [pk_div ha h0 hd, pk_mul, pk_sub (Nat.div_mul_le_self a d)]
  exact congrArg nI (by have := Nat.div_add_mod' a d; omega)
theorem pk_ix (x : Int32) {n : Nat} (hn : n < 2 ^ 31) : x < 0 ∨ nI n ≤ x ∨ ∃ j : Nat, j < n ∧ x = nI j := by
  by_cases h : x < 0
  · exact Or.inl h
  · obtain ⟨j, hj, rfl⟩ := nI_of h
    by_cases h2 : j < n
    · exact Or.inr (Or.inr ⟨j, h2, rfl⟩)
    · exact Or.inr (Or.inl (nI_le (by omega) hj))
theorem pk_le {x y : Int32} {A B : Prop} (a b : Nat) (f : a ≤ b → A) (g : b < a → B) (hx : x = nI a := by rfl) (hy : y = nI b := by rfl) (ha : a < 2 ^ 31 := by omega) (hb : b < 2 ^ 31 := by omega) : (x ≤ y → A) ∧ (¬ x ≤ y → B) := by
  subst hx hy
  rw [nI_leI ha hb]
  exact ⟨f, fun z => g (by omega)⟩
theorem pk_lt {x y : Int32} {A B : Prop} (a b : Nat) (f : a < b → A) (g : b ≤ a → B) (hx : x = nI a := by rfl) (hy : y = nI b := by rfl) (ha : a < 2 ^ 31 := by omega) (hb : b < 2 ^ 31 := by omega) : (x < y → A) ∧ (¬ x < y → B) := by
  subst hx hy
  rw [nI_ltI ha hb]
  exact ⟨f, fun z => g (by omega)⟩
theorem pk_eq {x y : Int32} {A B : Prop} (a b : Nat) (f : a = b → A) (g : a ≠ b → B) (hx : x = nI a := by rfl) (hy : y = nI b := by rfl) (ha : a < 2 ^ 31 := by omega) (hb : b < 2 ^ 31 := by omega) : (x = y → A) ∧ (¬ x = y → B) := by
  subst hx hy
  rw [nI_eq ha hb]
  exact ⟨f, g⟩
theorem pk_in {x : Int32} (n N : Nat) (h : n < N) (hx : x = nI n := by rfl) (hN : N < 2 ^ 31 := by omega) : vp_in x N := by
  subst hx
  exact vp_in_nI h hN
theorem pk_cl {x : Int32} (n : Nat) (hx : x = nI n := by rfl) (h : n < 2 ^ 31 := by omega) : x.toNatClampNeg = n := by
  subst hx
  exact nI_clamp h
theorem pk_vb (z : Int32) : vp_nar .byte z.toInt8.toInt32 = z.toInt8.toInt32 := by rw [vp_nar_byte]; simp
theorem pk_vs (z : Int32) : vp_nar .short z.toInt16.toInt32 = z.toInt16.toInt32 := by rw [vp_nar_short]; simp
def bt (x : Int32) (i : Nat) : Bool := x.toBitVec.getLsbD i
theorem b_ext {x y : Int32} (h : ∀ i, i < 32 → bt x i = bt y i) : x = y := Int32.toBitVec_inj.mp (BitVec.eq_of_getLsbD_eq (fun i hi => h i hi))
theorem b_or (x y : Int32) (i : Nat) : bt (x ||| y) i = (bt x i || bt y i) := by unfold bt; rw [Int32.toBitVec_or, BitVec.getLsbD_or]
theorem b_and (x y : Int32) (i : Nat) : bt (x &&& y) i = (bt x i && bt y i) := by unfold bt; rw [Int32.toBitVec_and, BitVec.getLsbD_and]
theorem b_xor (x y : Int32) (i : Nat) : bt (x ^^^ y) i = (bt x i ^^ bt y i) := by unfold bt; rw [Int32.toBitVec_xor, BitVec.getLsbD_xor]
theorem b_big {x : Int32} {i : Nat} (h : 32 ≤ i) : bt x i = false := BitVec.getLsbD_of_ge _ _ h
theorem b_m1 : ∀ i, i < 32 → bt (-1) i = true := by decide +kernel
theorem b_0 (i : Nat) : bt 0 i = false := BitVec.getLsbD_zero
theorem s_l : ∀ n, n < 32 → ((nI n &&& 31).toBitVec.smod 32).toNat = n := by decide +kernel
theorem b_shl (n : Nat) (hn : n < 32) (x : Int32) {i : Nat} (hi : i < 32) : bt (x <<< (nI n &&& 31)) i = (decide (n ≤ i) && bt x (i - n)) := by
  unfold bt
  rw [Int32.toBitVec_shiftLeft]
  show (x.toBitVec <<< ((nI n &&& 31).toBitVec.smod 32).toNat).getLsbD i = _
  rw [s_l n hn, BitVec.getLsbD_shiftLeft]
  rcases Nat.lt_or_ge i n with h | h
  · simp [h, Nat.not_le.mpr h]
  · simp [hi, h, Nat.not_lt.mpr h]
theorem b_sshr (n : Nat) (hn : n < 32) (x : Int32) {i : Nat} (hi : i < 32) : bt (x >>> (nI n &&& 31)) i = if n + i < 32 then bt x (n + i) else bt x 31 := by
  unfold bt
  rw [Int32.toBitVec_shiftRight]
  show (x.toBitVec.sshiftRight ((nI n &&& 31).toBitVec.smod 32).toNat).getLsbD i = _
  rw [s_l n hn, BitVec.getLsbD_sshiftRight, BitVec.msb_eq_getLsbD_last]
  simp [hi]
/-! ===== own rows: bits ===== -/
theorem zt_b1 : ∀ i, i < 32 → bt 1 i = decide (i = 0) := by decide +kernel
theorem zt_tst (x : Int32) {n : Nat} (hn : n < 32) : ((x >>> (nI n &&& 31)) &&& 1) = 0 ↔ bt x n = false := by
  have e : ∀ i, i < 32 → bt ((x >>> (nI n &&& 31)) &&& 1) i = (decide (i = 0) && bt x n) := by
    intro i hi
    rw [b_and, b_sshr n hn x hi, zt_b1 i hi]
    by_cases h : i = 0
    · subst h
      rw [if_pos (by omega)]
      simp
    · simp [h]
  constructor
  · intro h
    have := e 0 (by omega)
    rw [h, b_0] at this
    simpa using this.symm
  · intro h
    apply b_ext
    intro i hi
    rw [e i hi, h, b_0]
    simp
theorem zt_one {n i : Nat} (hn : n < 32) (hi : i < 32) : bt ((1 : Int32) <<< (nI n &&& 31)) i = decide (i = n) := by
  rw [b_shl n hn 1 hi, zt_b1 _ (by omega)]
  by_cases h : n ≤ i
  · by_cases h2 : i = n
    · simp [h2]
    · have : i - n ≠ 0 := by omega
      simp [h2, this]
  · have : i ≠ n := by omega
    simp [h, this]
theorem zt_set (x : Int32) {n i : Nat} (hn : n < 32) (hi : i < 32) : bt (x ||| ((1 : Int32) <<< (nI n &&& 31))) i = (bt x i || decide (i = n)) := by
  rw [b_or, zt_one hn hi]
theorem zt_clr (x : Int32) {n i : Nat} (hn : n < 32) (hi : i < 32) : bt (x &&& (((1 : Int32) <<< (nI n &&& 31)) ^^^ (-1))) i = (bt x i && !decide (i = n)) := by
  rw [b_and, b_xor, zt_one hn hi, b_m1 i hi]
  simp
theorem zt_s16 (x : Int32) {i : Nat} (hi : i < 32) : bt (x.toInt16.toInt32) i = if i < 16 then bt x i else bt x 15 := by
  unfold bt
  rw [Int16.toBitVec_toInt32, Int32.toBitVec_toInt16, BitVec.getLsbD_signExtend]
  by_cases h : i < 16
  · rw [if_pos h]
    simp [h, hi, BitVec.getLsbD_signExtend, BitVec.getElem_signExtend]
  · rw [if_neg h, if_neg h, BitVec.msb_eq_getLsbD_last]
    simp [hi, BitVec.getLsbD_signExtend, BitVec.getElem_signExtend]
/-- a number as a short, if its bits from 15 on are clear -/
theorem zt_sh {x : Int32} (h : ∀ i, i < 32 → 15 ≤ i → bt x i = false) : vp_nar .short (x.toInt16.toInt32) = x := by
  rw [pk_vs]
  apply b_ext
  intro i hi
  rw [zt_s16 x hi]
  by_cases z : i < 16
  · rw [if_pos z]
  · rw [if_neg z, h i hi (by omega), h 15 (by omega) (by omega)]
/-- a small number as a byte -/
theorem zt_by : ∀ k, k < 64 → vp_nar .byte ((nI k).toInt8.toInt32) = nI k := by
  have h : ∀ k, k < 64 → (nI k).toInt8.toInt32 = nI k := by decide +kernel
  intro k hk
  rw [pk_vb, h k hk]
theorem zt_m1 : vp_nar .byte (-1) = -1 := by rw [vp_nar_byte]; decide
theorem zt_s0 : vp_nar .short 0 = 0 := by rw [vp_nar_short]; decide
theorem zt_f0 : vp_nar .boolean 0 = 0 := rfl
theorem zt_f1 : vp_nar .boolean 1 = 1 := rfl
/-- the holder as the component keeps it -/
def zt_hv (h : Nat) : Int32 := if h = 0 then -1 else nI (h - 1)
theorem zt_hv_m : ∀ h, h < 5 → (zt_hv h = -1 ↔ h = 0) := by decide +kernel
theorem zt_hv_t : ∀ h, h < 5 → ∀ t, t < 4 → (zt_hv h = nI t ↔ h = t + 1) := by decide +kernel
theorem zt_hv_s (t : Nat) : zt_hv (t + 1) = nI t := by
  unfold zt_hv
  rw [if_neg (by omega)]
  rfl
theorem zt_hv_0 : zt_hv 0 = -1 := rfl
theorem zt_hv_b : ∀ h, h < 5 → vp_nar .byte (zt_hv h) = zt_hv h := by
  have h : ∀ h, h < 5 → (zt_hv h).toInt8.toInt32 = zt_hv h := by decide +kernel
  intro k hk
  rw [vp_nar_byte, h k hk]
def zt_bI (b : Bool) : Int32 := if b then 1 else 0
theorem zt_bI0 (b : Bool) : zt_bI b = 0 ↔ b = false := by cases b <;> decide
/-- natural-number functions with one value changed -/
def zt_un (f : Nat → Nat) (k x : Nat) : Nat → Nat := fun j => if j = k then x else f j
def zt_ub (f : Nat → Bool) (k : Nat) (x : Bool) : Nat → Bool := fun j => if j = k then x else f j
theorem zt_us {f : Nat → Int32} {k j : Nat} {x : Int32} : upd f k x j = if j = k then x else f j := rfl
theorem zt_le12 {k : Nat} (h : k < 12) : ¬ (12 : Int32) ≤ nI k := nI_ge (b := 12) h (by decide)
theorem zt_ge12 {k : Nat} (h : 12 ≤ k) (h2 : k < 100) : (12 : Int32) ≤ nI k := nI_le (a := 12) h (by omega)
theorem zt_cl {k : Nat} (h : k < 10000) : (nI k).toNatClampNeg = k := nI_clamp (by omega)
theorem zt_ne {a b : Nat} (h : a ≠ b) (ha : a < 2 ^ 31) (hb : b < 2 ^ 31) : ¬ nI a = nI b := by
  rw [nI_eq ha hb]; exact h
theorem zt_ci {x : Int32} {n : Nat} (hx : x = nI n) (hn : n < 10000) : x.toNatClampNeg = n := by rw [hx]; exact zt_cl hn
theorem ek_if2 {c d A B : Prop} (e : c ↔ d) (f : d → A) (g : ¬ d → B) : (c → A) ∧ (¬ c → B) := ⟨fun z => f (e.mp z), fun z => g (fun q => z (e.mpr q))⟩
end
section
/-! ===== the component's state by its parts ===== -/
/-- names name slot parts trouble troubled commitCount -/
abbrev ty_B : Type := Int32 × Int32 × Int32 × Int32 × Int32 × Int32 × Int32
/-- state votes heard happened -/
abbrev ty_V : Type := Int32 × Int32 × Int32 × Int32
/-- first waiting sent lostCount, messages' kind from to name -/
abbrev ty_Q : Type := Int32 × Int32 × Int32 × Int32 × (Nat → Int32) × (Nat → Int32) × (Nat → Int32) × (Nat → Int32)
/-- image logSize logKind logTransaction logKey logNumber -/
abbrev ty_L : Type := (Nat → Int32) × (Nat → Int32) × (Nat → Int32) × (Nat → Int32) × (Nat → Int32) × (Nat → Int32)
/-- openSet numbers holderOf writtenKeys writtenNumber -/
abbrev ty_D : Type := Int32 × (Nat → Int32) × (Nat → Int32) × (Nat → Int32) × (Nat → Int32)
def mk_X (B : ty_B) (V : ty_V) (Q : ty_Q) (L : ty_L) (D : ty_D) (p g : Nat → Int32) : SX := (D.1, V.1, V.2.1, V.2.2.1, B.1, B.2.1, B.2.2.1, B.2.2.2.1, B.2.2.2.2.1, B.2.2.2.2.2.1, V.2.2.2, B.2.2.2.2.2.2, Q.1, Q.2.1, Q.2.2.1, Q.2.2.2.1, L.1, L.2.1, L.2.2.1, L.2.2.2.1, L.2.2.2.2.1, L.2.2.2.2.2, D.2.1, D.2.2.1, D.2.2.2.1, D.2.2.2.2, p, g, Q.2.2.2.2.1, Q.2.2.2.2.2.1, Q.2.2.2.2.2.2.1, Q.2.2.2.2.2.2.2)
/-- who has begun and not ended, the numbers, who holds each key (0 for nobody), what was written there, whether it was -/
def co_re (A : Nat → Bool) (N : Nat → Int32) (H : Nat → Nat) (S : Nat → Int32) (C : Nat → Bool) (D : ty_D) : Prop :=
  (∀ i, i < 32 → bt D.1 i = (decide (i < 4) && A i)) ∧
  (∀ k, k < 12 → D.2.1 k = N k) ∧
  (∀ k, k < 12 → D.2.2.1 k = zt_hv (H k)) ∧
  (∀ t, t < 4 → ∀ i, i < 32 → bt (D.2.2.2.1 t) i = (decide (i < 12) && (decide (H i = t + 1) && C i))) ∧
  (∀ t, t < 4 → ∀ k, k < 12 → H k = t + 1 → C k = true → D.2.2.2.2 (t * 12 + k) = S k) ∧
  (∀ k, k < 12 → H k < 5)
theorem co_cong {A A' : Nat → Bool} {N N' : Nat → Int32} {H H' : Nat → Nat} {S S' : Nat → Int32} {C C' : Nat → Bool} {D : ty_D} (h : co_re A N H S C D)
    (hA : ∀ i, i < 4 → A' i = A i) (hN : ∀ k, k < 12 → N' k = N k) (hH : ∀ k, k < 12 → H' k = H k) (hS : ∀ k, k < 12 → H k ≠ 0 → S' k = S k) (hC : ∀ k, k < 12 → H k ≠ 0 → C' k = C k) : co_re A' N' H' S' C' D := by
  obtain ⟨h1, h2, h3, h4, h5, h6⟩ := h
  refine ⟨fun i hi => ?_, fun k hk => ?_, fun k hk => ?_, fun t ht i hi => ?_, fun t ht k hk e c => ?_, fun k hk => ?_⟩
  · rw [h1 i hi]
    by_cases z : i < 4
    · rw [hA i z]
    · simp [z]
  · rw [h2 k hk, hN k hk]
  · rw [h3 k hk, hH k hk]
  · rw [h4 t ht i hi]
    by_cases z : i < 12
    · rw [hH i z]
      by_cases y : H i = t + 1
      · rw [hC i z (by omega)]
      · simp [y]
    · simp [z]
  · rw [hH k hk] at e
    rw [hC k hk (by omega)] at c
    rw [h5 t ht k hk e c, hS k hk (by omega)]
  · rw [hH k hk]; exact h6 k hk
/-- an int names a transaction that has begun -/
def op_n (A : Nat → Bool) (x : Int32) : Prop := ∃ t, t < 4 ∧ x = nI t ∧ A t = true
/-- .. a key -/
def ke_y (x : Int32) : Prop := ∃ k, k < 12 ∧ x = nI k
/-- .. a number that fits -/
def nu_m (x : Int32) : Prop := -9999 ≤ x.toInt ∧ x.toInt ≤ 9999
theorem nu_lo (x : Int32) : x < (-9999) ↔ x.toInt < -9999 := by
  rw [Int32.lt_iff_toInt_lt, show (-9999 : Int32).toInt = -9999 from by decide]
theorem nu_hi (x : Int32) : (9999 : Int32) < x ↔ 9999 < x.toInt := by
  rw [Int32.lt_iff_toInt_lt, show (9999 : Int32).toInt = 9999 from by decide]
section
variable {A : Nat → Bool} {N : Nat → Int32} {H : Nat → Nat} {S : Nat → Int32} {C : Nat → Bool}
variable {B : ty_B} {V : ty_V} {Q : ty_Q} {L : ty_L} {D : ty_D} {p g : Nat → Int32}
theorem xa_open1 {post : Int32 → Prop} (hC : co_re A N H S C D) {t : Nat} (ht : t < 4) (hA : A t = true) (h : post 1) : wpX_isOpen post (mk_X B V Q L D p g) (nI t) := by
  refine And.intro (fun z => absurd z (nI_pos (by omega))) (fun _ => ?_)
  refine br_f (nI_ge (b := 4) ht (by decide)) (br_f ?_ h)
  rw [zt_tst _ (by omega), hC.1 t (by omega), hA]
  simp [ht]
theorem xa_open0 {post : Int32 → Prop} (hC : co_re A N H S C D) {x : Int32} (hx : ¬ op_n A x) (h : post 0) : wpX_isOpen post (mk_X B V Q L D p g) x := by
  refine And.intro (fun _ => h) (fun z => ?_)
  obtain ⟨t, ht, rfl⟩ := nI_of z
  refine br_c (fun _ => h) (fun z4 => ?_)
  have h4 : t < 4 := by
    rcases Nat.lt_or_ge t 4 with q | q
    · exact q
    · exact absurd (nI_le (a := 4) q ht) z4
  refine br_t ?_ h
  rw [zt_tst _ (by omega), hC.1 t (by omega)]
  cases hA : A t
  · simp
  · exact absurd ⟨t, h4, rfl, hA⟩ hx
theorem xa_key1 {post : Int32 → Prop} {k : Nat} (hk : k < 12) (h : post 1) : wpX_isKey post (nI k) :=
  And.intro (fun z => absurd z (nI_pos (by omega))) (fun _ => br_f (zt_le12 hk) h)
theorem xa_key0 {post : Int32 → Prop} {x : Int32} (hx : ¬ ke_y x) (h : post 0) : wpX_isKey post x := by
  refine And.intro (fun _ => h) (fun z => ?_)
  obtain ⟨k, hk, rfl⟩ := nI_of z
  refine br_t ?_ h
  rcases Nat.lt_or_ge k 12 with q | q
  · exact absurd ⟨k, q, rfl⟩ hx
  · exact nI_le (a := 12) q hk
theorem xa_num1 {post : Int32 → Prop} {x : Int32} (hx : nu_m x) (h : post 1) : wpX_isNumber post x :=
  And.intro (fun z => absurd ((nu_lo x).mp z) (by have := hx.1; omega)) (fun _ => br_f (fun z => absurd ((nu_hi x).mp z) (by have := hx.2; omega)) h)
theorem xa_num0 {post : Int32 → Prop} {x : Int32} (hx : ¬ nu_m x) (h : post 0) : wpX_isNumber post x := by
  refine And.intro (fun _ => h) (fun z => ?_)
  refine br_t ?_ h
  rw [nu_lo] at z
  rw [nu_hi]
  have : ¬ (-9999 ≤ x.toInt ∧ x.toInt ≤ 9999) := hx
  omega
theorem xa_free1 {post : Int32 → Prop} (hC : co_re A N H S C D) {t k : Nat} (ht : t < 4) (hk : k < 12) (hf : H k = 0 ∨ H k = t + 1) (h : post 1) : wpX_isFree post (mk_X B V Q L D p g) (nI t) (nI k) := by
  refine And.intro (vp_in_nI hk (by decide)) ?_
  rw [zt_cl (by omega), hC.2.2.1 k hk]
  refine br_c (fun _ => h) (fun z => ⟨vp_in_nI hk (by decide), br_t ?_ h⟩)
  rw [zt_hv_m _ (hC.2.2.2.2.2 k hk)] at z
  rw [zt_hv_t _ (hC.2.2.2.2.2 k hk) t ht]
  omega
theorem xa_free0 {post : Int32 → Prop} (hC : co_re A N H S C D) {t k : Nat} (ht : t < 4) (hk : k < 12) (hf : ¬ (H k = 0 ∨ H k = t + 1)) (h : post 0) : wpX_isFree post (mk_X B V Q L D p g) (nI t) (nI k) := by
  refine And.intro (vp_in_nI hk (by decide)) ?_
  rw [zt_cl (by omega), hC.2.2.1 k hk]
  refine br_f ?_ ⟨vp_in_nI hk (by decide), br_f ?_ h⟩
  · rw [zt_hv_m _ (hC.2.2.2.2.2 k hk)]; omega
  · rw [zt_hv_t _ (hC.2.2.2.2.2 k hk) t ht]; omega
theorem xa_has1 {post : Int32 → Prop} (hC : co_re A N H S C D) {t k : Nat} (ht : t < 4) (hk : k < 12) (hw : H k = t + 1) (hc : C k = true) (h : post 1) : wpX_hasWritten post (mk_X B V Q L D p g) (nI t) (nI k) := by
  refine And.intro (vp_in_nI ht (by decide)) (br_f ?_ h)
  rw [zt_cl (by omega)]
  rw [zt_tst _ (by omega)]
  rw [hC.2.2.2.1 t ht k (by omega)]
  simp [hk, hw, hc]
theorem xa_has0 {post : Int32 → Prop} (hC : co_re A N H S C D) {t k : Nat} (ht : t < 4) (hk : k < 12) (hw : ¬ (H k = t + 1 ∧ C k = true)) (h : post 0) : wpX_hasWritten post (mk_X B V Q L D p g) (nI t) (nI k) := by
  refine And.intro (vp_in_nI ht (by decide)) (br_t ?_ h)
  rw [zt_cl (by omega)]
  rw [zt_tst _ (by omega)]
  rw [hC.2.2.2.1 t ht k (by omega)]
  by_cases e : H k = t + 1
  · cases hc : C k
    · simp
    · exact absurd ⟨e, hc⟩ hw
  · simp [e]
/-- what t sees at k -/
def se_n (N : Nat → Int32) (H : Nat → Nat) (S : Nat → Int32) (t k : Nat) : Int32 := if H k = t + 1 then S k else N k
theorem xa_seen {post : Int32 → Prop} (hC : co_re A N H S C D) {t k : Nat} (ht : t < 4) (hk : k < 12) (hu : H k ≠ 0 → C k = false → S k = N k) (h : post (se_n N H S t k)) : wpX_seen post (mk_X B V Q L D p g) (nI t) (nI k) := by
  unfold wpX_seen
  by_cases hw : H k = t + 1 ∧ C k = true
  · refine xa_has1 hC ht hk hw.1 hw.2 (br_f (by decide) ?_)
    have e : nI t * 12 + nI k = nI (t * 12 + k) := by rw [show (12 : Int32) = nI 12 from rfl, pk_mul, nI_add]
    rw [e, zt_cl (by omega)]
    refine And.intro (vp_in_nI (by omega) (by decide)) ?_
    show post (D.2.2.2.2 (t * 12 + k))
    rw [hC.2.2.2.2.1 t ht k hk hw.1 hw.2]
    unfold se_n at h
    rw [if_pos hw.1] at h
    exact h
  · refine xa_has0 hC ht hk hw (br_t rfl ?_)
    rw [zt_cl (by omega)]
    refine And.intro (vp_in_nI hk (by decide)) ?_
    show post (D.2.1 k)
    rw [hC.2.1 k hk]
    unfold se_n at h
    by_cases e : H k = t + 1
    · rw [if_pos e] at h
      have c : C k = false := by
        cases hc : C k
        · rfl
        · exact absurd ⟨e, hc⟩ hw
      rw [hu (by omega) c] at h
      exact h
    · rw [if_neg e] at h
      exact h
end
end
section
/-! ===== writing a key, releasing, rolling back, holders ===== -/
theorem zi_3 (t m : Nat) : nI t * 3 + nI m = nI (t * 3 + m) := by rw [show (3 : Int32) = nI 3 from rfl, pk_mul, nI_add]
theorem zi_12 (t m : Nat) : nI t * 12 + nI m = nI (t * 12 + m) := by rw [show (12 : Int32) = nI 12 from rfl, pk_mul, nI_add]
theorem zi_64 (m : Nat) : nI m * 64 = nI (m * 64) := by rw [show (64 : Int32) = nI 64 from rfl, pk_mul]
theorem zi_p3 (k : Nat) : nI k + 3 = nI (k + 3) := nI_add k 3
def rl_1 (t k : Nat) (H : Nat → Nat) : Nat → Nat := fun i => if i = k ∧ H i = t + 1 then 0 else H i
def rl_p (t m k : Nat) (H : Nat → Nat) : Nat → Nat := fun i => if i % 3 = m ∧ i < k ∧ H i = t + 1 then 0 else H i
def rl_m (t m : Nat) (H : Nat → Nat) : Nat → Nat := fun i => if i % 3 = m ∧ H i = t + 1 then 0 else H i
/-- nobody of the set K holds a key any more -/
def kl_H (K : Nat → Bool) (H : Nat → Nat) : Nat → Nat := fun i => if H i ≠ 0 ∧ K (H i - 1) = true then 0 else H i
def kl_A (K : Nat → Bool) (A : Nat → Bool) : Nat → Bool := fun i => A i && !K i
def kl_1 (t : Nat) : Nat → Bool := fun i => decide (i = t)
/-- t holds a key below n on m -/
def hn_k (H : Nat → Nat) (m t : Nat) : Nat → Bool
  | 0 => false
  | k + 1 => hn_k H m t k || (decide (k % 3 = m) && decide (H k = t + 1))
theorem hn_iff (H : Nat → Nat) (m t : Nat) : ∀ n, hn_k H m t n = true ↔ ∃ k, k < n ∧ k % 3 = m ∧ H k = t + 1
  | 0 => by simp [hn_k]
  | n + 1 => by
    simp only [hn_k, Bool.or_eq_true, hn_iff H m t n, Bool.and_eq_true, decide_eq_true_eq]
    constructor
    · rintro (⟨k, a, b, c⟩ | ⟨b, c⟩)
      · exact ⟨k, by omega, b, c⟩
      · exact ⟨n, by omega, b, c⟩
    · rintro ⟨k, a, b, c⟩
      rcases Nat.lt_or_ge k n with z | z
      · exact Or.inl ⟨k, z, b, c⟩
      · have : k = n := by omega
        subst this
        exact Or.inr ⟨b, c⟩
theorem hn_cong {H H' : Nat → Nat} {m t t' : Nat} (n : Nat) (h : ∀ k, k < n → (H k = t + 1 ↔ H' k = t' + 1)) : hn_k H m t n = hn_k H' m t' n := by
  apply Bool.eq_iff_iff.mpr
  rw [hn_iff, hn_iff]
  constructor
  · rintro ⟨k, a, b, c⟩; exact ⟨k, a, b, (h k a).mp c⟩
  · rintro ⟨k, a, b, c⟩; exact ⟨k, a, b, (h k a).mpr c⟩
theorem co_write {A : Nat → Bool} {N : Nat → Int32} {H : Nat → Nat} {S : Nat → Int32} {C : Nat → Bool} {D : ty_D} (hC : co_re A N H S C D) {t k : Nat} (ht : t < 4) (hk : k < 12) (hf : H k = 0 ∨ H k = t + 1) (v : Int32) :
    co_re A N (zt_un H k (t + 1)) (upd S k v) (zt_ub C k true) (D.1, D.2.1, upd D.2.2.1 k (nI t), upd D.2.2.2.1 t (D.2.2.2.1 t ||| ((1 : Int32) <<< (nI k &&& 31))), upd D.2.2.2.2 (t * 12 + k) v) := by
  obtain ⟨h1, h2, h3, h4, h5, h6⟩ := hC
  refine ⟨h1, h2, fun i hi => ?_, fun t' ht' i hi => ?_, fun t' ht' i hi e c => ?_, fun i hi => ?_⟩
  · show (if i = k then nI t else D.2.2.1 i) = zt_hv (if i = k then t + 1 else H i)
    by_cases z : i = k
    · rw [if_pos z, if_pos z, zt_hv_s]
    · rw [if_neg z, if_neg z, h3 i hi]
  · show bt (if t' = t then _ else D.2.2.2.1 t') i = (decide (i < 12) && (decide ((if i = k then t + 1 else H i) = t' + 1) && (if i = k then true else C i)))
    by_cases z : t' = t
    · subst z
      rw [if_pos rfl, zt_set _ (by omega) hi, h4 t' ht' i hi]
      by_cases y : i = k
      · subst y; simp [hk]
      · simp [y]
    · rw [if_neg z, h4 t' ht' i hi]
      by_cases y : i = k
      · subst y
        have a : ¬ H i = t' + 1 := by omega
        have b : ¬ t = t' := by omega
        simp [a, b]
      · simp [y]
  · have e' : (if i = k then t + 1 else H i) = t' + 1 := e
    have c' : (if i = k then true else C i) = true := c
    show (if t' * 12 + i = t * 12 + k then v else D.2.2.2.2 (t' * 12 + i)) = (if i = k then v else S i)
    by_cases y : i = k
    · rw [if_pos y] at e'
      rw [if_pos y, if_pos (by omega)]
    · rw [if_neg y] at e' c'
      rw [if_neg y, if_neg (by omega), h5 t' ht' i hi e' c']
  · show (if i = k then t + 1 else H i) < 5
    by_cases y : i = k
    · rw [if_pos y]; omega
    · rw [if_neg y]; exact h6 i hi
theorem co_rel1 {A : Nat → Bool} {N : Nat → Int32} {H : Nat → Nat} {S : Nat → Int32} {C : Nat → Bool} {D : ty_D} (hC : co_re A N H S C D) {t k : Nat} (ht : t < 4) (hk : k < 12) :
    co_re A N (rl_1 t k H) S C (D.1, D.2.1, upd D.2.2.1 k (zt_hv (rl_1 t k H k)), upd D.2.2.2.1 t (D.2.2.2.1 t &&& (((1 : Int32) <<< (nI k &&& 31)) ^^^ (-1))), D.2.2.2.2) := by
  obtain ⟨h1, h2, h3, h4, h5, h6⟩ := hC
  refine ⟨h1, h2, fun i hi => ?_, fun t' ht' i hi => ?_, fun t' ht' i hi e c => ?_, fun i hi => ?_⟩
  · show (if i = k then zt_hv (rl_1 t k H k) else D.2.2.1 i) = zt_hv (rl_1 t k H i)
    by_cases z : i = k
    · rw [if_pos z, z]
    · rw [if_neg z, h3 i hi]
      unfold rl_1
      rw [if_neg (fun q => z q.1)]
  · show bt (if t' = t then _ else D.2.2.2.1 t') i = (decide (i < 12) && (decide ((if i = k ∧ H i = t + 1 then 0 else H i) = t' + 1) && C i))
    by_cases z : t' = t
    · subst z
      rw [if_pos rfl, zt_clr _ (by omega) hi, h4 t' ht' i hi]
      by_cases y : i = k
      · subst y
        by_cases x : H i = t' + 1
        · simp [x]
        · simp [x]
      · simp [y]
    · rw [if_neg z, h4 t' ht' i hi]
      by_cases y : i = k ∧ H i = t + 1
      · have a : ¬ H i = t' + 1 := by omega
        rw [if_pos y]
        simp [a]
      · rw [if_neg y]
  · have e' : (if i = k ∧ H i = t + 1 then 0 else H i) = t' + 1 := e
    by_cases y : i = k ∧ H i = t + 1
    · rw [if_pos y] at e'; omega
    · rw [if_neg y] at e'
      exact h5 t' ht' i hi e' c
  · show (if i = k ∧ H i = t + 1 then 0 else H i) < 5
    have := h6 i hi
    split <;> omega
section
variable {A : Nat → Bool} {N : Nat → Int32} {H : Nat → Nat} {S : Nat → Int32} {C : Nat → Bool}
variable {B : ty_B} {V : ty_V} {Q : ty_Q} {L : ty_L} {D : ty_D} {p g : Nat → Int32}
theorem xb_write {post : SX → Prop} (hC : co_re A N H S C D) {t k : Nat} (ht : t < 4) (hk : k < 12) (hf : H k = 0 ∨ H k = t + 1) (v : Int32)
    (h : ∀ D', co_re A N (zt_un H k (t + 1)) (upd S k v) (zt_ub C k true) D' → post (mk_X B V Q L D' p g)) : wpX_writeKey post (mk_X B V Q L D p g) (nI t) (nI k) v := by
  have hw : ∀ i, i < 32 → 15 ≤ i → bt (D.2.2.2.1 t ||| ((1 : Int32) <<< (nI k &&& 31))) i = false := by
    intro i hi h15
    rw [zt_set _ (by omega) hi, hC.2.2.2.1 t ht i hi]
    have a : ¬ i < 12 := by omega
    have b : ¬ i = k := by omega
    simp [a, b]
  refine And.intro (vp_in_nI hk (by decide)) (nm_r (e' := upd D.2.2.1 k (nI t)) (by rw [zt_cl (by omega), zt_by t (by omega)]) ?_)
  refine And.intro (vp_in_nI ht (by decide)) (And.intro (vp_in_nI ht (by decide)) ?_)
  refine nm_r (e' := upd D.2.2.2.1 t (D.2.2.2.1 t ||| ((1 : Int32) <<< (nI k &&& 31)))) (by rw [zt_cl (by omega), zt_sh hw]) ?_
  rw [zi_12, zt_cl (by omega)]
  exact And.intro (vp_in_nI (by omega) (by decide)) (nm_e (h _ (co_write hC ht hk hf v)))
theorem xb_rel33 {post : SX → Prop} {t m k : Nat} (ht : t < 4) (hk : k < 12) (hC : co_re A N H S C D) {J : Int32 → (Nat → Int32) → (Nat → Int32) → (Nat → Int32) → (Nat → Int32) → (Nat → Int32) → (Nat → Int32) → (Nat → Int32) → (Nat → Int32) → (Nat → Int32) → (Nat → Int32) → (Nat → Int32) → (Nat → Int32) → (Nat → Int32) → (Nat → Int32) → (Nat → Int32) → (Nat → Int32) → Prop} {z0 : Int32} (hz : z0 = zt_hv (rl_1 t k H k))
    (h : ∀ D' : ty_D, D'.1 = D.1 → D'.2.1 = D.2.1 → co_re A N (rl_1 t k H) S C D' → J (nI (k + 3)) L.1 L.2.1 L.2.2.1 L.2.2.2.1 L.2.2.2.2.1 L.2.2.2.2.2 D'.2.1 D'.2.2.1 D'.2.2.2.1 D'.2.2.2.2 p g Q.2.2.2.2.1 Q.2.2.2.2.2.1 Q.2.2.2.2.2.2.1 Q.2.2.2.2.2.2.2) : wX_releaseOn_33 post J (nI t) (nI m) (nI k) z0 (nI k) D.1 V.1 V.2.1 V.2.2.1 B.1 B.2.1 B.2.2.1 B.2.2.2.1 B.2.2.2.2.1 B.2.2.2.2.2.1 V.2.2.2 B.2.2.2.2.2.2 Q.1 Q.2.1 Q.2.2.1 Q.2.2.2.1 L.1 L.2.1 L.2.2.1 L.2.2.2.1 L.2.2.2.2.1 L.2.2.2.2.2 D.2.1 D.2.2.1 D.2.2.2.1 D.2.2.2.2 p g Q.2.2.2.2.1 Q.2.2.2.2.2.1 Q.2.2.2.2.2.2.1 Q.2.2.2.2.2.2.2 := by
  have hw : ∀ i, i < 32 → 15 ≤ i → bt (D.2.2.2.1 t &&& (((1 : Int32) <<< (nI k &&& 31)) ^^^ (-1))) i = false := by
    intro i hi h15
    rw [zt_clr _ (by omega) hi, hC.2.2.2.1 t ht i hi]
    have a : ¬ i < 12 := by omega
    simp [a]
  have hb : rl_1 t k H k < 5 := by
    have := hC.2.2.2.2.2 k hk
    unfold rl_1
    split <;> omega
  refine And.intro (vp_in_nI hk (by decide)) (nm_r (e' := upd D.2.2.1 k (zt_hv (rl_1 t k H k))) (by rw [zt_cl (by omega), hz, zt_hv_b _ hb]) ?_)
  refine And.intro (vp_in_nI ht (by decide)) (And.intro (vp_in_nI ht (by decide)) ?_)
  refine nm_r (e' := upd D.2.2.2.1 t (D.2.2.2.1 t &&& (((1 : Int32) <<< (nI k &&& 31)) ^^^ (-1)))) (by rw [zt_cl (by omega), zt_sh hw]) ?_
  exact nm_r (zi_p3 k) (h (D.1, D.2.1, upd D.2.2.1 k (zt_hv (rl_1 t k H k)), upd D.2.2.2.1 t (D.2.2.2.1 t &&& (((1 : Int32) <<< (nI k &&& 31)) ^^^ (-1))), D.2.2.2.2) rfl rfl (co_rel1 hC ht hk))
theorem rl_step {t m k i : Nat} (H : Nat → Nat) (hk : k % 3 = m) : rl_p t m (k + 3) H i = rl_1 t k (rl_p t m k H) i := by
  unfold rl_1 rl_p
  by_cases a : i % 3 = m ∧ i < k ∧ H i = t + 1
  · have b : i % 3 = m ∧ i < k + 3 ∧ H i = t + 1 := ⟨a.1, by omega, a.2.2⟩
    have c : ¬ i = k := by omega
    simp [a, b, c]
  · rw [if_neg a]
    by_cases c : i = k ∧ H i = t + 1
    · rw [if_pos c, if_pos ⟨by omega, by omega, c.2⟩]
    · rw [if_neg c, if_neg (by omega)]
theorem xb_rel_lp {post : SX → Prop} {t m : Nat} (ht : t < 4) (hm : m < 3) (H : Nat → Nat)
    (hp : ∀ D' : ty_D, co_re A N (rl_m t m H) S C D' → post (mk_X B V Q L D' (upd p (t * 3 + m) 0) g)) :
    ∀ r k n (D : ty_D), k + 3 * r = m + 12 → r < n → co_re A N (rl_p t m k H) S C D → wX_releaseOn_2 post (nI t) (nI m) D.1 V.1 V.2.1 V.2.2.1 B.1 B.2.1 B.2.2.1 B.2.2.2.1 B.2.2.2.2.1 B.2.2.2.2.2.1 V.2.2.2 B.2.2.2.2.2.2 Q.1 Q.2.1 Q.2.2.1 Q.2.2.2.1 n (nI k) L.1 L.2.1 L.2.2.1 L.2.2.2.1 L.2.2.2.2.1 L.2.2.2.2.2 D.2.1 D.2.2.1 D.2.2.2.1 D.2.2.2.2 p g Q.2.2.2.2.1 Q.2.2.2.2.2.1 Q.2.2.2.2.2.2.1 Q.2.2.2.2.2.2.2 := by
  intro r
  induction r with
  | zero =>
    intro k n D hk hn hC
    cases n with
    | zero => omega
    | succ n =>
      refine br_t (zt_ge12 (by omega) (by omega)) ?_
      rw [zi_3, zt_cl (by omega)]
      refine And.intro (vp_in_nI (by omega) (by decide)) (nm_e (hp D (co_cong hC (fun _ _ => rfl) (fun _ _ => rfl) (fun i hi => ?_) (fun _ _ _ => rfl) (fun _ _ _ => rfl))))
      unfold rl_m rl_p
      by_cases a : i % 3 = m ∧ H i = t + 1
      · rw [if_pos a, if_pos ⟨a.1, by omega, a.2⟩]
      · rw [if_neg a, if_neg (by omega)]
  | succ r ih =>
    intro k n D hk hn hC
    cases n with
    | zero => omega
    | succ n =>
      have hk12 : k < 12 := by omega
      have key : ∀ z0, z0 = zt_hv (rl_1 t k (rl_p t m k H) k) → wX_releaseOn_33 post (wX_releaseOn_2 post (nI t) (nI m) D.1 V.1 V.2.1 V.2.2.1 B.1 B.2.1 B.2.2.1 B.2.2.2.1 B.2.2.2.2.1 B.2.2.2.2.2.1 V.2.2.2 B.2.2.2.2.2.2 Q.1 Q.2.1 Q.2.2.1 Q.2.2.2.1 n) (nI t) (nI m) (nI k) z0 (nI k) D.1 V.1 V.2.1 V.2.2.1 B.1 B.2.1 B.2.2.1 B.2.2.2.1 B.2.2.2.2.1 B.2.2.2.2.2.1 V.2.2.2 B.2.2.2.2.2.2 Q.1 Q.2.1 Q.2.2.1 Q.2.2.2.1 L.1 L.2.1 L.2.2.1 L.2.2.2.1 L.2.2.2.2.1 L.2.2.2.2.2 D.2.1 D.2.2.1 D.2.2.2.1 D.2.2.2.2 p g Q.2.2.2.2.1 Q.2.2.2.2.2.1 Q.2.2.2.2.2.2.1 Q.2.2.2.2.2.2.2 := by
        intro z0 hz
        refine xb_rel33 ht hk12 hC hz (fun D' e1 e2 hD => ?_)
        have := ih (k + 3) n D' (by omega) (by omega) (co_cong hD (fun _ _ => rfl) (fun _ _ => rfl) (fun i hi => rl_step H (by omega)) (fun _ _ _ => rfl) (fun _ _ _ => rfl))
        rw [e1] at this
        exact this
      refine br_f (zt_le12 hk12) (And.intro (vp_in_nI hk12 (by decide)) ?_)
      have e : D.2.2.1 (nI k).toNatClampNeg = zt_hv (rl_p t m k H k) := by rw [zt_cl (by omega)]; exact hC.2.2.1 k hk12
      have hb := hC.2.2.2.2.2 k hk12
      rw [e]
      refine br_c (fun z => key _ ?_) (fun z => And.intro (vp_in_nI hk12 (by decide)) (key _ ?_))
      · rw [zt_hv_t _ hb t ht] at z
        unfold rl_1
        rw [if_pos ⟨rfl, z⟩, zt_hv_0]
      · rw [zt_hv_t _ hb t ht] at z
        unfold rl_1
        rw [if_neg (fun q => z q.2)]
theorem xb_rel {post : SX → Prop} {t m : Nat} (ht : t < 4) (hm : m < 3) (hC : co_re A N H S C D)
    (hp : ∀ D' : ty_D, co_re A N (rl_m t m H) S C D' → post (mk_X B V Q L D' (upd p (t * 3 + m) 0) g)) : wpX_releaseOn post (mk_X B V Q L D p g) (nI t) (nI m) := by
  refine Exists.intro 5 (xb_rel_lp ht hm H hp 4 m 5 D (by omega) (by omega) (co_cong hC (fun _ _ => rfl) (fun _ _ => rfl) (fun i hi => ?_) (fun _ _ _ => rfl) (fun _ _ _ => rfl)))
  unfold rl_p
  rw [if_neg (by omega)]
/-- the three promises of t are nothing -/
def pr_0 (t : Nat) (p : Nat → Int32) : Nat → Int32 := upd (upd (upd p (t * 3 + 0) 0) (t * 3 + 1) 0) (t * 3 + 2) 0
theorem pr_0e (t : Nat) (p : Nat → Int32) (j : Nat) : pr_0 t p j = if j / 3 = t then 0 else p j := by
  unfold pr_0 upd
  by_cases a : j / 3 = t
  · rw [if_pos a]
    by_cases b : j = t * 3 + 2
    · rw [if_pos b]
    · rw [if_neg b]
      by_cases c : j = t * 3 + 1
      · rw [if_pos c]
      · rw [if_neg c, if_pos (by omega)]
  · rw [if_neg a, if_neg (by omega), if_neg (by omega), if_neg (by omega)]
theorem xb_roll {post : SX → Prop} {t : Nat} (ht : t < 4) (hC : co_re A N H S C D)
    (hp : ∀ D' : ty_D, co_re (kl_A (kl_1 t) A) N (kl_H (kl_1 t) H) S C D' → post (mk_X B V Q L D' (pr_0 t p) g)) : wpX_rollBack post (mk_X B V Q L D p g) (nI t) := by
  refine Exists.intro 4 (br_f (nI_ge (a := 0) (b := 3) (by decide) (by decide)) ?_)
  refine xb_rel (m := 0) ht (by decide) hC (fun D1 h1 => nm_r (e' := nI 1) rfl ?_)
  refine br_f (nI_ge (a := 1) (b := 3) (by decide) (by decide)) ?_
  refine xb_rel (m := 1) ht (by decide) h1 (fun D2 h2 => nm_r (e' := nI 2) rfl ?_)
  refine br_f (nI_ge (a := 2) (b := 3) (by decide) (by decide)) ?_
  refine xb_rel (m := 2) ht (by decide) h2 (fun D3 h3 => nm_r (e' := nI 3) rfl ?_)
  refine br_t (nI_le (a := 3) (b := 3) (by decide) (by decide)) (nm_e ?_)
  refine hp (D3.1 &&& (((1 : Int32) <<< (nI t &&& 31)) ^^^ (-1)), D3.2) ?_
  have hH : ∀ k, k < 12 → kl_H (kl_1 t) H k = rl_m t 2 (rl_m t 1 (rl_m t 0 H)) k := by
    intro k hk
    unfold kl_H kl_1 rl_m
    by_cases a : H k = t + 1
    · have b : H k ≠ 0 ∧ decide (H k - 1 = t) = true := ⟨by omega, decide_eq_true (by omega)⟩
      rw [if_pos b]
      have : k % 3 = 0 ∨ k % 3 = 1 ∨ k % 3 = 2 := by omega
      rcases this with z | z | z <;> simp [z, a]
    · have b : ¬ (H k ≠ 0 ∧ decide (H k - 1 = t) = true) := by
        rw [decide_eq_true_eq]; omega
      rw [if_neg b]
      simp [a]
  obtain ⟨h1, h2, h3, h4, h5, h6⟩ := co_cong h3 (fun _ _ => rfl) (fun _ _ => rfl) hH (fun _ _ _ => rfl) (fun _ _ _ => rfl)
  refine ⟨fun i hi => ?_, h2, h3, h4, h5, h6⟩
  show bt (D3.1 &&& (((1 : Int32) <<< (nI t &&& 31)) ^^^ (-1))) i = _
  rw [zt_clr _ (by omega) hi, h1 i hi]
  unfold kl_A kl_1
  rw [Bool.and_assoc]
/-! holders on a machine -/
theorem xb_hold_st {post : Int32 → Prop} (hC : co_re A N H S C D) {k n : Nat} (hk : k < 12) (x : Int32)
    (h : ∀ y, (∀ i, i < 32 → bt y i = (bt x i || decide (H k = i + 1))) → wX_holdersOn_4 post D.1 V.1 V.2.1 V.2.2.1 B.1 B.2.1 B.2.2.1 B.2.2.2.1 B.2.2.2.2.1 B.2.2.2.2.2.1 V.2.2.2 B.2.2.2.2.2.2 Q.1 Q.2.1 Q.2.2.1 Q.2.2.2.1 L.1 L.2.1 L.2.2.1 L.2.2.2.1 L.2.2.2.2.1 L.2.2.2.2.2 D.2.1 D.2.2.1 D.2.2.2.1 D.2.2.2.2 p g Q.2.2.2.2.1 Q.2.2.2.2.2.1 Q.2.2.2.2.2.2.1 Q.2.2.2.2.2.2.2 n y (nI (k + 3))) : wX_holdersOn_4 post D.1 V.1 V.2.1 V.2.2.1 B.1 B.2.1 B.2.2.1 B.2.2.2.1 B.2.2.2.2.1 B.2.2.2.2.2.1 V.2.2.2 B.2.2.2.2.2.2 Q.1 Q.2.1 Q.2.2.1 Q.2.2.2.1 L.1 L.2.1 L.2.2.1 L.2.2.2.1 L.2.2.2.2.1 L.2.2.2.2.2 D.2.1 D.2.2.1 D.2.2.2.1 D.2.2.2.2 p g Q.2.2.2.2.1 Q.2.2.2.2.2.1 Q.2.2.2.2.2.2.1 Q.2.2.2.2.2.2.2 (n + 1) x (nI k) := by
  refine br_f (zt_le12 hk) (And.intro (vp_in_nI hk (by decide)) ?_)
  have hb := hC.2.2.2.2.2 k hk
  have e : D.2.2.1 (nI k).toNatClampNeg = zt_hv (H k) := by rw [zt_cl (by omega)]; exact hC.2.2.1 k hk
  rw [e]
  refine br_c (fun z => nm_e (nm_r (zi_p3 k) (h _ fun i hi => ?_))) (fun z => And.intro (vp_in_nI hk (by decide)) (nm_e (nm_r (zi_p3 k) (h _ fun i hi => ?_))))
  · rw [zt_hv_m _ hb] at z
    have : ¬ H k = i + 1 := by omega
    rw [b_or, b_0]
    simp [this]
  · rw [zt_hv_m _ hb] at z
    obtain ⟨t, ht⟩ : ∃ t, H k = t + 1 := ⟨H k - 1, by omega⟩
    rw [ht, zt_hv_s, zt_set _ (by omega) hi]
    by_cases q : i = t
    · simp [q]
    · have : ¬ t = i := by omega
      simp [q, this]
theorem xb_hold {post : Int32 → Prop} (hC : co_re A N H S C D) {m : Nat} (hm : m < 3)
    (h : ∀ y, (∀ i, i < 32 → bt y i = (decide (i < 4) && hn_k H m i 12)) → post y) : wpX_holdersOn post (mk_X B V Q L D p g) (nI m) := by
  refine Exists.intro 5 ?_
  refine xb_hold_st hC (by omega) 0 (fun y1 h1 => ?_)
  refine xb_hold_st hC (by omega) y1 (fun y2 h2 => ?_)
  refine xb_hold_st hC (by omega) y2 (fun y3 h3 => ?_)
  refine xb_hold_st hC (by omega) y3 (fun y4 h4 => ?_)
  refine br_t (zt_ge12 (by omega) (by omega)) (h y4 (fun i hi => ?_))
  rw [h4 i hi, h3 i hi, h2 i hi, h1 i hi, b_0]
  apply Bool.eq_iff_iff.mpr
  simp only [Bool.or_eq_true, Bool.and_eq_true, decide_eq_true_eq, hn_iff, Bool.false_eq_true, false_or]
  constructor
  · rintro (((a | a) | a) | a)
    · have := hC.2.2.2.2.2 m (by omega)
      exact ⟨by omega, m, by omega, by omega, a⟩
    · have := hC.2.2.2.2.2 (m + 3) (by omega)
      exact ⟨by omega, m + 3, by omega, by omega, a⟩
    · have := hC.2.2.2.2.2 (m + 3 + 3) (by omega)
      exact ⟨by omega, m + 3 + 3, by omega, by omega, a⟩
    · have := hC.2.2.2.2.2 (m + 3 + 3 + 3) (by omega)
      exact ⟨by omega, m + 3 + 3 + 3, by omega, by omega, a⟩
  · rintro ⟨_, k, a, b, c⟩
    have : k = m ∨ k = m + 3 ∨ k = m + 3 + 3 ∨ k = m + 3 + 3 + 3 := by omega
    rcases this with z | z | z | z <;> subst z <;> simp [c]
end
end
section
/-! ===== logs, purely ===== -/
/-- all that x writes among the first entries -/
def lg_ap (L : ty_L) (b : Nat) (x : Int32) (f : Nat → Int32) : Nat → (Nat → Int32)
  | 0 => f
  | i + 1 => if L.2.2.1 (b + i) = 1 ∧ L.2.2.2.1 (b + i) = x then upd (lg_ap L b x f i) (L.2.2.2.2.1 (b + i)).toNatClampNeg (L.2.2.2.2.2 (b + i)) else lg_ap L b x f i
/-- coming back: the numbers, and what is in doubt -/
def lg_cb (L : ty_L) (b n : Nat) (f : Nat → Int32) : Nat → (Nat → Int32) × Int32
  | 0 => (f, 0)
  | i + 1 => if L.2.2.1 (b + i) = 2 then ((lg_cb L b n f i).1, L.2.2.2.1 (b + i)) else if L.2.2.1 (b + i) = 3 then (lg_ap L b (L.2.2.2.1 (b + i)) (lg_cb L b n f i).1 n, 0) else if L.2.2.1 (b + i) = 4 then ((lg_cb L b n f i).1, 0) else lg_cb L b n f i
theorem lg_ap1 {L : ty_L} {b : Nat} {x : Int32} {f : Nat → Int32} {i : Nat} (h : L.2.2.1 (b + i) = 1 ∧ L.2.2.2.1 (b + i) = x) : lg_ap L b x f (i + 1) = upd (lg_ap L b x f i) (L.2.2.2.2.1 (b + i)).toNatClampNeg (L.2.2.2.2.2 (b + i)) := if_pos h
theorem lg_ap0 {L : ty_L} {b : Nat} {x : Int32} {f : Nat → Int32} {i : Nat} (h : ¬ (L.2.2.1 (b + i) = 1 ∧ L.2.2.2.1 (b + i) = x)) : lg_ap L b x f (i + 1) = lg_ap L b x f i := if_neg h
theorem lg_cb2 {L : ty_L} {b n : Nat} {f : Nat → Int32} {i : Nat} (h : L.2.2.1 (b + i) = 2) : lg_cb L b n f (i + 1) = ((lg_cb L b n f i).1, L.2.2.2.1 (b + i)) := if_pos h
theorem lg_cb3 {L : ty_L} {b n : Nat} {f : Nat → Int32} {i : Nat} (h : L.2.2.1 (b + i) = 3) : lg_cb L b n f (i + 1) = (lg_ap L b (L.2.2.2.1 (b + i)) (lg_cb L b n f i).1 n, 0) := by
  have a : ¬ L.2.2.1 (b + i) = 2 := by rw [h]; decide
  exact (if_neg a).trans (if_pos h)
theorem lg_cb4 {L : ty_L} {b n : Nat} {f : Nat → Int32} {i : Nat} (h : L.2.2.1 (b + i) = 4) : lg_cb L b n f (i + 1) = ((lg_cb L b n f i).1, 0) := by
  have a : ¬ L.2.2.1 (b + i) = 2 := by rw [h]; decide
  have c : ¬ L.2.2.1 (b + i) = 3 := by rw [h]; decide
  exact (if_neg a).trans ((if_neg c).trans (if_pos h))
theorem lg_cbn {L : ty_L} {b n : Nat} {f : Nat → Int32} {i : Nat} (h2 : ¬ L.2.2.1 (b + i) = 2) (h3 : ¬ L.2.2.1 (b + i) = 3) (h4 : ¬ L.2.2.1 (b + i) = 4) : lg_cb L b n f (i + 1) = lg_cb L b n f i :=
  (if_neg h2).trans ((if_neg h3).trans (if_neg h4))
def lg_eq (L L' : ty_L) (b n : Nat) : Prop := ∀ i, i < n → L'.2.2.1 (b + i) = L.2.2.1 (b + i) ∧ L'.2.2.2.1 (b + i) = L.2.2.2.1 (b + i) ∧ L'.2.2.2.2.1 (b + i) = L.2.2.2.2.1 (b + i) ∧ L'.2.2.2.2.2 (b + i) = L.2.2.2.2.2 (b + i)
theorem lg_ap_eq {L L' : ty_L} {b n : Nat} (h : lg_eq L L' b n) (x : Int32) (f : Nat → Int32) : ∀ i, i ≤ n → lg_ap L' b x f i = lg_ap L b x f i := by
  intro i
  induction i with
  | zero => intro _; rfl
  | succ i ih =>
    intro hi
    obtain ⟨e1, e2, e3, e4⟩ := h i (by omega)
    show (if _ then _ else _) = (if _ then _ else _)
    rw [e1, e2, e3, e4, ih (by omega)]
theorem lg_cb_eq {L L' : ty_L} {b n : Nat} (h : lg_eq L L' b n) (f : Nat → Int32) : ∀ i, i ≤ n → lg_cb L' b n f i = lg_cb L b n f i := by
  intro i
  induction i with
  | zero => intro _; rfl
  | succ i ih =>
    intro hi
    obtain ⟨e1, e2, e3, e4⟩ := h i (by omega)
    show (if _ then _ else _) = (if _ then _ else _)
    rw [e1, e2, ih (by omega), lg_ap_eq h _ _ n (Nat.le_refl n)]
theorem lg_ap_pt {L : ty_L} {b : Nat} {x : Int32} {f f' : Nat → Int32} {k : Nat} (h : f k = f' k) : ∀ i, lg_ap L b x f i k = lg_ap L b x f' i k := by
  intro i
  induction i with
  | zero => exact h
  | succ i ih =>
    by_cases c : L.2.2.1 (b + i) = 1 ∧ L.2.2.2.1 (b + i) = x
    · rw [lg_ap1 c, lg_ap1 c]
      show (if _ then _ else _) = (if _ then _ else _)
      rw [ih]
    · rw [lg_ap0 c, lg_ap0 c, ih]
theorem lg_cb_pt {L : ty_L} {b n : Nat} {f f' : Nat → Int32} {k : Nat} (h : f k = f' k) : ∀ i, (lg_cb L b n f i).1 k = (lg_cb L b n f' i).1 k := by
  intro i
  induction i with
  | zero => exact h
  | succ i ih =>
    by_cases h2 : L.2.2.1 (b + i) = 2
    · rw [lg_cb2 h2, lg_cb2 h2]; exact ih
    · by_cases h3 : L.2.2.1 (b + i) = 3
      · rw [lg_cb3 h3, lg_cb3 h3]; exact lg_ap_pt ih n
      · by_cases h4 : L.2.2.1 (b + i) = 4
        · rw [lg_cb4 h4, lg_cb4 h4]; exact ih
        · rw [lg_cbn h2 h3 h4, lg_cbn h2 h3 h4]; exact ih
theorem lg_cb_o {L : ty_L} {b n : Nat} (f f' : Nat → Int32) : ∀ i, (lg_cb L b n f i).2 = (lg_cb L b n f' i).2 := by
  intro i
  induction i with
  | zero => rfl
  | succ i ih =>
    by_cases h2 : L.2.2.1 (b + i) = 2
    · rw [lg_cb2 h2, lg_cb2 h2]
    · by_cases h3 : L.2.2.1 (b + i) = 3
      · rw [lg_cb3 h3, lg_cb3 h3]
      · by_cases h4 : L.2.2.1 (b + i) = 4
        · rw [lg_cb4 h4, lg_cb4 h4]
        · rw [lg_cbn h2 h3 h4, lg_cbn h2 h3 h4]; exact ih
/-- writes among the entries are to the machine's own keys -/
def lg_k (L : ty_L) (m n : Nat) : Prop := ∀ i, i < n → L.2.2.1 (m * 64 + i) = 1 → ∃ k, k < 12 ∧ k % 3 = m ∧ L.2.2.2.2.1 (m * 64 + i) = nI k
theorem lg_ap_out {L : ty_L} {m n : Nat} (h : lg_k L m n) (x : Int32) (f : Nat → Int32) {k : Nat} (hk : k % 3 ≠ m) : ∀ i, i ≤ n → lg_ap L (m * 64) x f i k = f k := by
  intro i
  induction i with
  | zero => intro _; rfl
  | succ i ih =>
    intro hi
    by_cases c : L.2.2.1 (m * 64 + i) = 1 ∧ L.2.2.2.1 (m * 64 + i) = x
    · obtain ⟨k', a1, a2, a3⟩ := h i (by omega) c.1
      rw [lg_ap1 c, a3, zt_cl (by omega)]
      show (if k = k' then _ else _) = _
      rw [if_neg (by intro e; subst e; exact hk a2), ih (by omega)]
    · rw [lg_ap0 c, ih (by omega)]
theorem lg_cb_out {L : ty_L} {m n : Nat} (h : lg_k L m n) (f : Nat → Int32) {k : Nat} (hk : k % 3 ≠ m) : ∀ i, i ≤ n → (lg_cb L (m * 64) n f i).1 k = f k := by
  intro i
  induction i with
  | zero => intro _; rfl
  | succ i ih =>
    intro hi
    by_cases h2 : L.2.2.1 (m * 64 + i) = 2
    · rw [lg_cb2 h2]; exact ih (by omega)
    · by_cases h3 : L.2.2.1 (m * 64 + i) = 3
      · rw [lg_cb3 h3]
        show lg_ap _ _ _ _ n k = f k
        rw [lg_ap_out h _ _ hk n (Nat.le_refl n), ih (by omega)]
      · by_cases h4 : L.2.2.1 (m * 64 + i) = 4
        · rw [lg_cb4 h4]; exact ih (by omega)
        · rw [lg_cbn h2 h3 h4]; exact ih (by omega)
/-! an entry more -/
def lg_A (L : ty_L) (m n : Nat) (kd x ky v : Int32) : ty_L := (L.1, upd L.2.1 m (nI (n + 1)), upd L.2.2.1 (m * 64 + n) kd, upd L.2.2.2.1 (m * 64 + n) x, upd L.2.2.2.2.1 (m * 64 + n) ky, upd L.2.2.2.2.2 (m * 64 + n) v)
/-- nothing but machine m's log has changed -/
def lg_fr (m : Nat) (L L' : ty_L) : Prop := L'.1 = L.1 ∧ ∀ m', m' ≠ m → L'.2.1 m' = L.2.1 m' ∧ lg_eq L L' (m' * 64) 64
theorem lg_fr_rf (m : Nat) (L : ty_L) : lg_fr m L L := ⟨rfl, fun _ _ => ⟨rfl, fun _ _ => ⟨rfl, rfl, rfl, rfl⟩⟩⟩
theorem lg_fr_tr {m : Nat} {L L' L'' : ty_L} (h : lg_fr m L L') (h' : lg_fr m L' L'') : lg_fr m L L'' := by
  refine ⟨h'.1.trans h.1, fun m' hm => ⟨((h'.2 m' hm).1).trans (h.2 m' hm).1, fun i hi => ?_⟩⟩
  obtain ⟨a1, a2, a3, a4⟩ := (h.2 m' hm).2 i hi
  obtain ⟨b1, b2, b3, b4⟩ := (h'.2 m' hm).2 i hi
  exact ⟨b1.trans a1, b2.trans a2, b3.trans a3, b4.trans a4⟩
theorem lg_fr_A (L : ty_L) (m n : Nat) (kd x ky v : Int32) (hn : n < 64) : lg_fr m L (lg_A L m n kd x ky v) := by
  refine ⟨rfl, fun m' hm => ⟨if_neg hm, fun i hi => ?_⟩⟩
  have a : m' * 64 + i ≠ m * 64 + n := by omega
  exact ⟨if_neg a, if_neg a, if_neg a, if_neg a⟩
theorem lg_A_eq (L : ty_L) (m n : Nat) (kd x ky v : Int32) : lg_eq L (lg_A L m n kd x ky v) (m * 64) n := by
  intro i hi
  have a : m * 64 + i ≠ m * 64 + n := by omega
  exact ⟨if_neg a, if_neg a, if_neg a, if_neg a⟩
theorem lg_A_at (L : ty_L) (m n : Nat) (kd x ky v : Int32) : (lg_A L m n kd x ky v).2.2.1 (m * 64 + n) = kd ∧ (lg_A L m n kd x ky v).2.2.2.1 (m * 64 + n) = x ∧ (lg_A L m n kd x ky v).2.2.2.2.1 (m * 64 + n) = ky ∧ (lg_A L m n kd x ky v).2.2.2.2.2 (m * 64 + n) = v :=
  ⟨if_pos rfl, if_pos rfl, if_pos rfl, if_pos rfl⟩
theorem lg_A_ap {L : ty_L} {m n : Nat} {kd x ky v y : Int32} (f : Nat → Int32) (h : ¬ (kd = 1 ∧ x = y)) : lg_ap (lg_A L m n kd x ky v) (m * 64) y f (n + 1) = lg_ap L (m * 64) y f n := by
  rw [lg_ap0 (by rw [(lg_A_at L m n kd x ky v).1, (lg_A_at L m n kd x ky v).2.1]; exact h), lg_ap_eq (lg_A_eq L m n kd x ky v) _ _ n (Nat.le_refl n)]
/-- no entry says that y is done -/
def lg_dn (L : ty_L) (m n : Nat) (y : Int32) : Prop := ∀ i, i < n → L.2.2.1 (m * 64 + i) = 3 → L.2.2.2.1 (m * 64 + i) ≠ y
theorem lg_A_cb {L : ty_L} {m n : Nat} {kd x ky v : Int32} (f : Nat → Int32) (h : kd = 1 → lg_dn L m n x) : ∀ i, i ≤ n → lg_cb (lg_A L m n kd x ky v) (m * 64) (n + 1) f i = lg_cb L (m * 64) n f i := by
  intro i
  induction i with
  | zero => intro _; rfl
  | succ i ih =>
    intro hi
    obtain ⟨e1, e2, e3, e4⟩ := lg_A_eq L m n kd x ky v i (by omega)
    by_cases h2 : L.2.2.1 (m * 64 + i) = 2
    · rw [lg_cb2 h2, lg_cb2 (e1.trans h2), e2, ih (by omega)]
    · by_cases h3 : L.2.2.1 (m * 64 + i) = 3
      · rw [lg_cb3 h3, lg_cb3 (e1.trans h3), e2, ih (by omega)]
        rw [lg_A_ap]
        rintro ⟨a, b⟩
        exact h a i (by omega) h3 b.symm
      · by_cases h4 : L.2.2.1 (m * 64 + i) = 4
        · rw [lg_cb4 h4, lg_cb4 (e1.trans h4), ih (by omega)]
        · rw [lg_cbn h2 h3 h4, lg_cbn (by rw [e1]; exact h2) (by rw [e1]; exact h3) (by rw [e1]; exact h4), ih (by omega)]
/-- the log of machine m: n entries, names up to nm, coming back gives N and o -/
def lg_m (L : ty_L) (m n nm : Nat) (N : Nat → Int32) (o : Int32) : Prop :=
  L.2.1 m = nI n ∧ lg_k L m n ∧ (∀ i, i < n → ∃ a, a ≤ nm ∧ L.2.2.2.1 (m * 64 + i) = nI a) ∧
  (∀ k, k < 12 → k % 3 = m → (lg_cb L (m * 64) n L.1 n).1 k = N k) ∧ (lg_cb L (m * 64) n L.1 n).2 = o
theorem lg_m_c {L : ty_L} {m n nm nm' : Nat} {N N' : Nat → Int32} {o : Int32} (h : lg_m L m n nm N o) (hn : nm ≤ nm') (hN : ∀ k, k < 12 → k % 3 = m → N' k = N k) : lg_m L m n nm' N' o := by
  obtain ⟨h1, h2, h3, h4, h5⟩ := h
  refine ⟨h1, h2, fun i hi => ?_, fun k hk hm => by rw [hN k hk hm]; exact h4 k hk hm, h5⟩
  obtain ⟨a, b, c⟩ := h3 i hi
  exact ⟨a, by omega, c⟩
theorem lg_k_e {L L' : ty_L} {m n : Nat} (h : lg_k L m n) (e : lg_eq L L' (m * 64) n) : lg_k L' m n := by
  intro i hi h1
  obtain ⟨e1, e2, e3, e4⟩ := e i hi
  rw [e1] at h1
  rw [e3]
  exact h i hi h1
theorem lg_m_fr {L L' : ty_L} {m m' n nm : Nat} {N : Nat → Int32} {o : Int32} (h : lg_m L m' n nm N o) (hf : lg_fr m L L') (hm : m' ≠ m) (hn : n ≤ 64) : lg_m L' m' n nm N o := by
  obtain ⟨h1, h2, h3, h4, h5⟩ := h
  have e : lg_eq L L' (m' * 64) n := fun i hi => (hf.2 m' hm).2 i (by omega)
  refine ⟨((hf.2 m' hm).1).trans h1, lg_k_e h2 e, fun i hi => ?_, fun k hk hq => ?_, ?_⟩
  · rw [(e i hi).2.1]; exact h3 i hi
  · rw [hf.1, lg_cb_eq e _ n (Nat.le_refl n)]; exact h4 k hk hq
  · rw [hf.1, lg_cb_eq e _ n (Nat.le_refl n)]; exact h5
/-- the common half of an entry more -/
theorem lg_m_A {L : ty_L} {m n nm : Nat} {N N' : Nat → Int32} {o o' kd ky v : Int32} (h : lg_m L m n nm N o) (hk : kd = 1 → ∃ k, k < 12 ∧ k % 3 = m ∧ ky = nI k)
    (hc : ∀ k, k < 12 → k % 3 = m → (lg_cb (lg_A L m n kd (nI nm) ky v) (m * 64) (n + 1) L.1 (n + 1)).1 k = N' k) (ho : (lg_cb (lg_A L m n kd (nI nm) ky v) (m * 64) (n + 1) L.1 (n + 1)).2 = o') :
    lg_m (lg_A L m n kd (nI nm) ky v) m (n + 1) nm N' o' := by
  obtain ⟨h1, h2, h3, h4, h5⟩ := h
  refine ⟨if_pos rfl, fun i hi q => ?_, fun i hi => ?_, hc, ho⟩
  · rcases Nat.lt_or_ge i n with z | z
    · exact lg_k_e h2 (lg_A_eq L m n kd (nI nm) ky v) i z q
    · have : i = n := by omega
      subst this
      rw [(lg_A_at L m i kd (nI nm) ky v).1] at q
      rw [(lg_A_at L m i kd (nI nm) ky v).2.2.1]
      exact hk q
  · rcases Nat.lt_or_ge i n with z | z
    · rw [(lg_A_eq L m n kd (nI nm) ky v i z).2.1]; exact h3 i z
    · have : i = n := by omega
      subst this
      exact ⟨nm, Nat.le_refl _, (lg_A_at L m i kd (nI nm) ky v).2.1⟩
theorem lg_write {L : ty_L} {m n nm k : Nat} {N : Nat → Int32} {o v : Int32} (h : lg_m L m n nm N o) (hd : lg_dn L m n (nI nm)) (hk : k < 12) (hm : k % 3 = m) : lg_m (lg_A L m n 1 (nI nm) (nI k) v) m (n + 1) nm N o := by
  have e : lg_cb (lg_A L m n 1 (nI nm) (nI k) v) (m * 64) (n + 1) L.1 (n + 1) = lg_cb L (m * 64) n L.1 n := by
    have a := (lg_A_at L m n 1 (nI nm) (nI k) v).1
    rw [lg_cbn (by rw [a]; decide) (by rw [a]; decide) (by rw [a]; decide), lg_A_cb _ (fun _ => hd) n (Nat.le_refl n)]
  exact lg_m_A h (fun _ => ⟨k, hk, hm, rfl⟩) (by rw [e]; exact h.2.2.2.1) (by rw [e]; exact h.2.2.2.2)
theorem lg_prom {L : ty_L} {m n nm : Nat} {N : Nat → Int32} {o : Int32} (h : lg_m L m n nm N o) : lg_m (lg_A L m n 2 (nI nm) 0 0) m (n + 1) nm N (nI nm) := by
  have e : lg_cb (lg_A L m n 2 (nI nm) 0 0) (m * 64) (n + 1) L.1 (n + 1) = ((lg_cb L (m * 64) n L.1 n).1, nI nm) := by
    rw [lg_cb2 (lg_A_at L m n 2 (nI nm) 0 0).1, (lg_A_at L m n 2 (nI nm) 0 0).2.1, lg_A_cb _ (fun z => absurd z (by decide)) n (Nat.le_refl n)]
  exact lg_m_A h (fun z => absurd z (by decide)) (by rw [e]; exact h.2.2.2.1) (by rw [e])
theorem lg_undo {L : ty_L} {m n nm : Nat} {N : Nat → Int32} {o : Int32} (h : lg_m L m n nm N o) : lg_m (lg_A L m n 4 (nI nm) 0 0) m (n + 1) nm N 0 := by
  have e : lg_cb (lg_A L m n 4 (nI nm) 0 0) (m * 64) (n + 1) L.1 (n + 1) = ((lg_cb L (m * 64) n L.1 n).1, 0) := by
    rw [lg_cb4 (lg_A_at L m n 4 (nI nm) 0 0).1, lg_A_cb _ (fun z => absurd z (by decide)) n (Nat.le_refl n)]
  exact lg_m_A h (fun z => absurd z (by decide)) (by rw [e]; exact h.2.2.2.1) (by rw [e])
theorem lg_done {L : ty_L} {m n nm : Nat} {N : Nat → Int32} {o : Int32} (h : lg_m L m n nm N o) : lg_m (lg_A L m n 3 (nI nm) 0 0) m (n + 1) nm (lg_ap L (m * 64) (nI nm) N n) 0 := by
  have e : lg_cb (lg_A L m n 3 (nI nm) 0 0) (m * 64) (n + 1) L.1 (n + 1) = (lg_ap L (m * 64) (nI nm) (lg_cb L (m * 64) n L.1 n).1 n, 0) := by
    rw [lg_cb3 (lg_A_at L m n 3 (nI nm) 0 0).1, (lg_A_at L m n 3 (nI nm) 0 0).2.1, lg_A_cb _ (fun z => absurd z (by decide)) n (Nat.le_refl n), lg_A_ap]
    rintro ⟨a, _⟩
    exact absurd a (by decide)
  refine lg_m_A h (fun z => absurd z (by decide)) (fun k hk hm => ?_) (by rw [e])
  rw [e]
  exact lg_ap_pt (h.2.2.2.1 k hk hm) n
/-- an empty log -/
theorem lg_empty {L : ty_L} {m nm : Nat} {N : Nat → Int32} (h : L.2.1 m = 0) (hi : ∀ k, k < 12 → k % 3 = m → L.1 k = N k) : lg_m L m 0 nm N 0 :=
  ⟨h, fun i hi => absurd hi (Nat.not_lt_zero i), fun i hi => absurd hi (Nat.not_lt_zero i), hi, rfl⟩
/-! what the transaction in hand has written on machine m -/
def pw_1 (L : ty_L) (m n nm t : Nat) (H : Nat → Nat) (S : Nat → Int32) (C : Nat → Bool) : Prop :=
  ∀ i, i < n → L.2.2.1 (m * 64 + i) = 1 → L.2.2.2.1 (m * 64 + i) = nI nm → ∃ k, k < 12 ∧ k % 3 = m ∧ L.2.2.2.2.1 (m * 64 + i) = nI k ∧ H k = t + 1 ∧ C k = true ∧ L.2.2.2.2.2 (m * 64 + i) = S k
def pw_2 (L : ty_L) (m n nm t : Nat) (H : Nat → Nat) (C : Nat → Bool) (K : Nat) : Prop :=
  ∀ k, k < K → k < 12 → k % 3 = m → H k = t + 1 → C k = true → ∃ i, i < n ∧ L.2.2.1 (m * 64 + i) = 1 ∧ L.2.2.2.1 (m * 64 + i) = nI nm ∧ L.2.2.2.2.1 (m * 64 + i) = nI k
theorem pw_ap {L : ty_L} {m n nm t : Nat} {H : Nat → Nat} {S : Nat → Int32} {C : Nat → Bool} (h1 : pw_1 L m n nm t H S C) (f : Nat → Int32) {k : Nat} (hk : k < 12) :
    ∀ i, i ≤ n → ((∃ j, j < i ∧ L.2.2.1 (m * 64 + j) = 1 ∧ L.2.2.2.1 (m * 64 + j) = nI nm ∧ L.2.2.2.2.1 (m * 64 + j) = nI k) → lg_ap L (m * 64) (nI nm) f i k = S k) ∧
      (¬ (∃ j, j < i ∧ L.2.2.1 (m * 64 + j) = 1 ∧ L.2.2.2.1 (m * 64 + j) = nI nm ∧ L.2.2.2.2.1 (m * 64 + j) = nI k) → lg_ap L (m * 64) (nI nm) f i k = f k) := by
  intro i
  induction i with
  | zero => intro _; exact ⟨fun ⟨j, hj, _⟩ => absurd hj (Nat.not_lt_zero j), fun _ => rfl⟩
  | succ i ih =>
    intro hi
    obtain ⟨ih1, ih2⟩ := ih (by omega)
    by_cases c : L.2.2.1 (m * 64 + i) = 1 ∧ L.2.2.2.1 (m * 64 + i) = nI nm
    · obtain ⟨k', a1, a2, a3, a4, a5, a6⟩ := h1 i (by omega) c.1 c.2
      rw [lg_ap1 c, a3, zt_cl (by omega), a6]
      by_cases e : k = k'
      · subst e
        refine ⟨fun _ => if_pos rfl, fun q => absurd ⟨i, by omega, c.1, c.2, a3⟩ q⟩
      · have ne : ¬ nI k' = nI k := zt_ne (fun z => e z.symm) (by omega) (by omega)
        refine ⟨fun q => ?_, fun q => ?_⟩
        · obtain ⟨j, b1, b2, b3, b4⟩ := q
          rw [pk_un e]
          refine ih1 ⟨j, ?_, b2, b3, b4⟩
          rcases Nat.lt_or_ge j i with z | z
          · exact z
          · have : j = i := by omega
            subst this
            rw [a3] at b4
            exact absurd b4 ne
        · rw [pk_un e]
          exact ih2 (fun ⟨j, b1, b⟩ => q ⟨j, by omega, b⟩)
    · rw [lg_ap0 c]
      refine ⟨fun q => ?_, fun q => ih2 (fun ⟨j, b1, b⟩ => q ⟨j, by omega, b⟩)⟩
      obtain ⟨j, b1, b2, b3, b4⟩ := q
      refine ih1 ⟨j, ?_, b2, b3, b4⟩
      rcases Nat.lt_or_ge j i with z | z
      · exact z
      · have : j = i := by omega
        subst this
        exact absurd ⟨b2, b3⟩ c
/-- what applying does, in the end -/
theorem pw_apn {L : ty_L} {m n nm t : Nat} {H : Nat → Nat} {S : Nat → Int32} {C : Nat → Bool} (h1 : pw_1 L m n nm t H S C) (h2 : pw_2 L m n nm t H C 12) (f : Nat → Int32) {k : Nat} (hk : k < 12) :
    lg_ap L (m * 64) (nI nm) f n k = if k % 3 = m ∧ H k = t + 1 ∧ C k = true then S k else f k := by
  obtain ⟨a, b⟩ := pw_ap h1 f hk n (Nat.le_refl n)
  by_cases c : k % 3 = m ∧ H k = t + 1 ∧ C k = true
  · rw [if_pos c]
    exact a (h2 k hk hk c.1 c.2.1 c.2.2)
  · rw [if_neg c]
    refine b (fun ⟨j, b1, b2, b3, b4⟩ => ?_)
    obtain ⟨k', a1, a2, a3, a4, a5, a6⟩ := h1 j b1 b2 b3
    rw [b4, nI_eq (by omega) (by omega)] at a3
    subst a3
    exact c ⟨a2, a4, a5⟩
end
section
/-! ===== logs: the walks ===== -/
section
variable {A : Nat → Bool} {N : Nat → Int32} {H : Nat → Nat} {S : Nat → Int32} {C : Nat → Bool}
variable {B : ty_B} {V : ty_V} {Q : ty_Q} {L : ty_L} {D : ty_D} {p g : Nat → Int32}
theorem xl_log {post : SX → Prop} {m n : Nat} (hm : m < 4) (hn : n < 64) (hs : L.2.1 m = nI n) {kd ky : Nat} (hkd : kd < 64) (hky : ky < 64) (x v : Int32)
    (h : post (mk_X B V Q (lg_A L m n (nI kd) x (nI ky) v) D p g)) : wpX_log post (mk_X B V Q L D p g) (nI m) (nI kd) x (nI ky) v := by
  have hi : vp_in (nI (m * 64 + n)) 256 := vp_in_nI (by omega) (by decide)
  have h4 : vp_in (nI m) 4 := vp_in_nI hm (by decide)
  have hc : (nI (m * 64 + n)).toNatClampNeg = m * 64 + n := zt_cl (by omega)
  have hcm : (nI m).toNatClampNeg = m := zt_cl (by omega)
  refine And.intro h4 (nm_r (e' := nI (m * 64 + n)) (by rw [hcm, zi_64]; show _ + L.2.1 m = _; rw [hs, nI_add]) ?_)
  refine And.intro hi (nm_r (e' := upd L.2.2.1 (m * 64 + n) (nI kd)) (by rw [hc, zt_by kd hkd]) ?_)
  refine And.intro hi (nm_r (e' := upd L.2.2.2.1 (m * 64 + n) x) (by rw [hc]) ?_)
  refine And.intro hi (nm_r (e' := upd L.2.2.2.2.1 (m * 64 + n) (nI ky)) (by rw [hc, zt_by ky hky]) ?_)
  refine And.intro hi (nm_r (e' := upd L.2.2.2.2.2 (m * 64 + n) v) (by rw [hc]) ?_)
  exact And.intro h4 (And.intro h4 (nm_r (e' := upd L.2.1 m (nI (n + 1))) (by rw [hcm]; show upd L.2.1 m (L.2.1 m + 1) = _; rw [hs, nI_1]) h))
theorem xl_isl_lp {post : Int32 → Prop} {m n : Nat} (hm : m < 4) (hn : n ≤ 64) (hs : L.2.1 m = nI n) (kd x : Int32)
    (h1 : (∃ i, i < n ∧ L.2.2.1 (m * 64 + i) = kd ∧ L.2.2.2.1 (m * 64 + i) = x) → post 1)
    (h0 : (¬ ∃ i, i < n ∧ L.2.2.1 (m * 64 + i) = kd ∧ L.2.2.2.1 (m * 64 + i) = x) → post 0) :
    ∀ r i f, i + r = n → r < f → (∀ j, j < i → ¬ (L.2.2.1 (m * 64 + j) = kd ∧ L.2.2.2.1 (m * 64 + j) = x)) → wX_isLogged_6 post (nI m) kd x D.1 V.1 V.2.1 V.2.2.1 B.1 B.2.1 B.2.2.1 B.2.2.2.1 B.2.2.2.2.1 B.2.2.2.2.2.1 V.2.2.2 B.2.2.2.2.2.2 Q.1 Q.2.1 Q.2.2.1 Q.2.2.2.1 L.1 L.2.1 L.2.2.1 L.2.2.2.1 L.2.2.2.2.1 L.2.2.2.2.2 D.2.1 D.2.2.1 D.2.2.2.1 D.2.2.2.2 p g Q.2.2.2.2.1 Q.2.2.2.2.2.1 Q.2.2.2.2.2.2.1 Q.2.2.2.2.2.2.2 f (nI (m * 64 + i)) := by
  have h4 : vp_in (nI m) 4 := vp_in_nI hm (by decide)
  have e : nI m * 64 + L.2.1 (nI m).toNatClampNeg = nI (m * 64 + n) := by rw [zt_cl (by omega), zi_64, hs, nI_add]
  intro r
  induction r with
  | zero =>
    intro i f hi hf hj
    cases f with
    | zero => omega
    | succ f =>
      refine And.intro h4 ?_
      rw [e]
      refine br_t (nI_le (by omega) (by omega)) (h0 ?_)
      rintro ⟨j, a, b⟩
      exact hj j (by omega) b
  | succ r ih =>
    intro i f hi hf hj
    cases f with
    | zero => omega
    | succ f =>
      have hv : vp_in (nI (m * 64 + i)) 256 := vp_in_nI (by omega) (by decide)
      have hc : (nI (m * 64 + i)).toNatClampNeg = m * 64 + i := zt_cl (by omega)
      have go : ¬ (L.2.2.1 (m * 64 + i) = kd ∧ L.2.2.2.1 (m * 64 + i) = x) → wX_isLogged_6 post (nI m) kd x D.1 V.1 V.2.1 V.2.2.1 B.1 B.2.1 B.2.2.1 B.2.2.2.1 B.2.2.2.2.1 B.2.2.2.2.2.1 V.2.2.2 B.2.2.2.2.2.2 Q.1 Q.2.1 Q.2.2.1 Q.2.2.2.1 L.1 L.2.1 L.2.2.1 L.2.2.2.1 L.2.2.2.2.1 L.2.2.2.2.2 D.2.1 D.2.2.1 D.2.2.2.1 D.2.2.2.2 p g Q.2.2.2.2.1 Q.2.2.2.2.2.1 Q.2.2.2.2.2.2.1 Q.2.2.2.2.2.2.2 f (nI (m * 64 + (i + 1))) := fun z =>
        ih (i + 1) f (by omega) (by omega) (lt_s hj z)
      refine And.intro h4 ?_
      rw [e]
      refine br_f (nI_ge (by omega) (by omega)) (And.intro hv ?_)
      rw [hc]
      refine br_c (fun z => And.intro hv (br_c (fun y => h1 ⟨i, by omega, z, y⟩) (fun y => nm_r (nI_1 _) (go (fun q => y q.2))))) (fun z => nm_r (nI_1 _) (go (fun q => z q.1)))
theorem xl_isl {post : Int32 → Prop} {m n : Nat} (hm : m < 4) (hn : n ≤ 64) (hs : L.2.1 m = nI n) (kd x : Int32)
    (h1 : (∃ i, i < n ∧ L.2.2.1 (m * 64 + i) = kd ∧ L.2.2.2.1 (m * 64 + i) = x) → post 1)
    (h0 : (¬ ∃ i, i < n ∧ L.2.2.1 (m * 64 + i) = kd ∧ L.2.2.2.1 (m * 64 + i) = x) → post 0) : wpX_isLogged post (mk_X B V Q L D p g) (nI m) kd x := by
  refine nm_r (e' := nI (m * 64 + 0)) (zi_64 m) (Exists.intro (n + 1) ?_)
  exact xl_isl_lp hm hn hs kd x h1 h0 n 0 (n + 1) (by omega) (by omega) (fun j hj => absurd hj (Nat.not_lt_zero j))
theorem xl_ap_lp {post : SX → Prop} {m n : Nat} (hm : m < 4) (hn : n ≤ 64) (hs : L.2.1 m = nI n) (hk : lg_k L m n) (x : Int32) (f0 : Nat → Int32)
    (h : post (mk_X B V Q L (D.1, lg_ap L (m * 64) x f0 n, D.2.2) p g)) :
    ∀ r i f, i + r = n → r < f → wX_applyLogged_5 post (nI m) x D.1 V.1 V.2.1 V.2.2.1 B.1 B.2.1 B.2.2.1 B.2.2.2.1 B.2.2.2.2.1 B.2.2.2.2.2.1 V.2.2.2 B.2.2.2.2.2.2 Q.1 Q.2.1 Q.2.2.1 Q.2.2.2.1 f (nI (m * 64 + i)) L.1 L.2.1 L.2.2.1 L.2.2.2.1 L.2.2.2.2.1 L.2.2.2.2.2 (lg_ap L (m * 64) x f0 i) D.2.2.1 D.2.2.2.1 D.2.2.2.2 p g Q.2.2.2.2.1 Q.2.2.2.2.2.1 Q.2.2.2.2.2.2.1 Q.2.2.2.2.2.2.2 := by
  have h4 : vp_in (nI m) 4 := vp_in_nI hm (by decide)
  have e : nI m * 64 + L.2.1 (nI m).toNatClampNeg = nI (m * 64 + n) := by rw [zt_cl (by omega), zi_64, hs, nI_add]
  intro r
  induction r with
  | zero =>
    intro i f hi hf
    cases f with
    | zero => omega
    | succ f =>
      have : i = n := by omega
      subst this
      refine And.intro h4 ?_
      rw [e]
      exact br_t (nI_le (by omega) (by omega)) h
  | succ r ih =>
    intro i f hi hf
    cases f with
    | zero => omega
    | succ f =>
      have hv : vp_in (nI (m * 64 + i)) 256 := vp_in_nI (by omega) (by decide)
      have hc : (nI (m * 64 + i)).toNatClampNeg = m * 64 + i := zt_cl (by omega)
      have go := ih (i + 1) f (by omega) (by omega)
      refine And.intro h4 ?_
      rw [e]
      refine br_f (nI_ge (by omega) (by omega)) (And.intro hv ?_)
      rw [hc]
      refine br_c (fun z => And.intro hv (br_c (fun y => ?_) (fun y => nm_r (nI_1 _) ?_))) (fun z => nm_r (nI_1 _) ?_)
      · rw [lg_ap1 ⟨z, y⟩] at go
        obtain ⟨k, a1, a2, a3⟩ := hk i (by omega) z
        refine And.intro hv (And.intro hv (And.intro (by rw [a3]; exact vp_in_nI a1 (by decide)) (nm_e (nm_r (nI_1 _) go))))
      · rw [lg_ap0 (fun q => y q.2)] at go
        exact go
      · rw [lg_ap0 (fun q => z q.1)] at go
        exact go
theorem xl_ap {post : SX → Prop} {m n : Nat} (hm : m < 4) (hn : n ≤ 64) (hs : L.2.1 m = nI n) (hk : lg_k L m n) (x : Int32)
    (h : post (mk_X B V Q L (D.1, lg_ap L (m * 64) x D.2.1 n, D.2.2) p g)) : wpX_applyLogged post (mk_X B V Q L D p g) (nI m) x :=
  nm_r (e' := nI (m * 64 + 0)) (zi_64 m) (Exists.intro (n + 1) (xl_ap_lp hm hn hs hk x D.2.1 h n 0 (n + 1) (by omega) (by omega)))
/-! holding again what was promised -/
def hl_H (L : ty_L) (b : Nat) (x : Int32) (t : Nat) (H : Nat → Nat) : Nat → (Nat → Nat)
  | 0 => H
  | i + 1 => if L.2.2.1 (b + i) = 1 ∧ L.2.2.2.1 (b + i) = x then zt_un (hl_H L b x t H i) (L.2.2.2.2.1 (b + i)).toNatClampNeg (t + 1) else hl_H L b x t H i
theorem hl_1 {L : ty_L} {b : Nat} {x : Int32} {t : Nat} {H : Nat → Nat} {i : Nat} (h : L.2.2.1 (b + i) = 1 ∧ L.2.2.2.1 (b + i) = x) : hl_H L b x t H (i + 1) = zt_un (hl_H L b x t H i) (L.2.2.2.2.1 (b + i)).toNatClampNeg (t + 1) := if_pos h
theorem hl_0 {L : ty_L} {b : Nat} {x : Int32} {t : Nat} {H : Nat → Nat} {i : Nat} (h : ¬ (L.2.2.1 (b + i) = 1 ∧ L.2.2.2.1 (b + i) = x)) : hl_H L b x t H (i + 1) = hl_H L b x t H i := if_neg h
theorem hl_or (L : ty_L) (b : Nat) (x : Int32) (t : Nat) (H : Nat → Nat) (k : Nat) : ∀ i, hl_H L b x t H i k = H k ∨ hl_H L b x t H i k = t + 1 := by
  intro i
  induction i with
  | zero => exact Or.inl rfl
  | succ i ih =>
    by_cases c : L.2.2.1 (b + i) = 1 ∧ L.2.2.2.1 (b + i) = x
    · rw [hl_1 c]
      unfold zt_un
      split
      · exact Or.inr rfl
      · exact ih
    · rw [hl_0 c]; exact ih
theorem xl_hl_lp {post : SX → Prop} {m n t : Nat} (hm : m < 3) (hn : n ≤ 64) (ht : t < 4) (hs : L.2.1 m = nI n) {b1 b2 : Int32} {b4 : Int32 × Int32 × Int32 × Int32} (x : Int32) (H : Nat → Nat)
    (hw : ∀ i, i < n → L.2.2.1 (m * 64 + i) = 1 → L.2.2.2.1 (m * 64 + i) = x → ∃ k, k < 12 ∧ L.2.2.2.2.1 (m * 64 + i) = nI k ∧ (H k = 0 ∨ H k = t + 1) ∧ C k = true ∧ L.2.2.2.2.2 (m * 64 + i) = S k)
    (h : ∀ D', co_re A N (hl_H L (m * 64) x t H n) S C D' → post (mk_X (b1, b2, nI t, b4) V Q L D' (upd p (t * 3 + m) x) g)) :
    ∀ r i f D, i + r = n → r < f → co_re A N (hl_H L (m * 64) x t H i) S C D → wX_holdLogged_5 post (nI m) x f (nI (m * 64 + i)) D.1 V.1 V.2.1 V.2.2.1 (b1, b2, nI t, b4).1 (b1, b2, nI t, b4).2.1 (b1, b2, nI t, b4).2.2.1 (b1, b2, nI t, b4).2.2.2.1 (b1, b2, nI t, b4).2.2.2.2.1 (b1, b2, nI t, b4).2.2.2.2.2.1 V.2.2.2 (b1, b2, nI t, b4).2.2.2.2.2.2 Q.1 Q.2.1 Q.2.2.1 Q.2.2.2.1 L.1 L.2.1 L.2.2.1 L.2.2.2.1 L.2.2.2.2.1 L.2.2.2.2.2 D.2.1 D.2.2.1 D.2.2.2.1 D.2.2.2.2 p g Q.2.2.2.2.1 Q.2.2.2.2.2.1 Q.2.2.2.2.2.2.1 Q.2.2.2.2.2.2.2 := by
  have h4 : vp_in (nI m) 4 := vp_in_nI (by omega) (by decide)
  have e : nI m * 64 + L.2.1 (nI m).toNatClampNeg = nI (m * 64 + n) := by rw [zt_cl (by omega), zi_64, hs, nI_add]
  intro r
  induction r with
  | zero =>
    intro i f D hi hf hC
    cases f with
    | zero => omega
    | succ f =>
      have : i = n := by omega
      subst this
      refine And.intro h4 ?_
      rw [e]
      refine br_t (nI_le (by omega) (by omega)) ?_
      exact And.intro (pk_in (t * 3 + m) 12 (by omega) (zi_3 t m)) (nm_r (e' := upd p (t * 3 + m) x) (congrArg (fun j => upd p j x) (zt_ci (zi_3 t m) (by omega))) (h D hC))
  | succ r ih =>
    intro i f D hi hf hC
    cases f with
    | zero => omega
    | succ f =>
      have hv : vp_in (nI (m * 64 + i)) 256 := vp_in_nI (by omega) (by decide)
      have hc : (nI (m * 64 + i)).toNatClampNeg = m * 64 + i := zt_cl (by omega)
      have go := fun D' => ih (i + 1) f D' (by omega) (by omega)
      refine And.intro h4 ?_
      rw [e]
      refine br_f (nI_ge (by omega) (by omega)) (And.intro hv ?_)
      rw [hc]
      refine br_c (fun z => And.intro hv (br_c (fun y => And.intro hv (And.intro hv ?_)) (fun y => nm_r (nI_1 _) ?_))) (fun z => nm_r (nI_1 _) ?_)
      · rw [hl_1 ⟨z, y⟩] at go
        obtain ⟨k, a1, a3, a4, a5, a6⟩ := hw i (by omega) z y
        rw [a3, zt_cl (by omega)] at go
        rw [a3, a6]
        have hf' : hl_H L (m * 64) x t H i k = 0 ∨ hl_H L (m * 64) x t H i k = t + 1 := by
          rcases hl_or L (m * 64) x t H k i with q | q
          · rw [q]; exact a4
          · exact Or.inr q
        refine xb_write (B := (b1, b2, nI t, b4)) hC ht a1 hf' (S k) (fun D' hD => nm_r (nI_1 _) (go D' (co_cong hD (fun _ _ => rfl) (fun _ _ => rfl) (fun _ _ => rfl) (fun j hj _ => ?_) (fun j hj _ => ?_))))
        · unfold upd
          split
          · next q => rw [q]
          · rfl
        · unfold zt_ub
          split
          · next q => rw [q]; exact a5
          · rfl
      · rw [hl_0 (fun q => y q.2)] at go
        exact go D hC
      · rw [hl_0 (fun q => z q.1)] at go
        exact go D hC
theorem xl_hl {post : SX → Prop} {m n t : Nat} (hm : m < 3) (hn : n ≤ 64) (ht : t < 4) (hs : L.2.1 m = nI n) {b1 b2 : Int32} {b4 : Int32 × Int32 × Int32 × Int32} (x : Int32) (hC : co_re A N H S C D)
    (hw : ∀ i, i < n → L.2.2.1 (m * 64 + i) = 1 → L.2.2.2.1 (m * 64 + i) = x → ∃ k, k < 12 ∧ L.2.2.2.2.1 (m * 64 + i) = nI k ∧ (H k = 0 ∨ H k = t + 1) ∧ C k = true ∧ L.2.2.2.2.2 (m * 64 + i) = S k)
    (h : ∀ D', co_re A N (hl_H L (m * 64) x t H n) S C D' → post (mk_X (b1, b2, nI t, b4) V Q L D' (upd p (t * 3 + m) x) g)) : wpX_holdLogged post (mk_X (b1, b2, nI t, b4) V Q L D p g) (nI m) x :=
  nm_r (e' := nI (m * 64 + 0)) (zi_64 m) (Exists.intro (n + 1) (xl_hl_lp hm hn ht hs x H hw h n 0 (n + 1) D (by omega) (by omega) hC))
/-! coming back -/
def cb_0 (m : Nat) (im f : Nat → Int32) : Nat → Int32 := upd (upd (upd (upd f m (im m)) (m + 3) (im (m + 3))) (m + 3 + 3) (im (m + 3 + 3))) (m + 3 + 3 + 3) (im (m + 3 + 3 + 3))
theorem cb_0e {m : Nat} (hm : m < 3) (im f : Nat → Int32) {k : Nat} (hk : k < 12) : cb_0 m im f k = if k % 3 = m then im k else f k := by
  unfold cb_0 upd
  by_cases a : k % 3 = m
  · rw [if_pos a]
    have : k = m ∨ k = m + 3 ∨ k = m + 3 + 3 ∨ k = m + 3 + 3 + 3 := by omega
    rcases this with z | z | z | z
    · rw [if_neg (by omega), if_neg (by omega), if_neg (by omega), if_pos z, z]
    · rw [if_neg (by omega), if_neg (by omega), if_pos z, z]
    · rw [if_neg (by omega), if_pos z, z]
    · rw [if_pos z, z]
  · rw [if_neg a, if_neg (by omega), if_neg (by omega), if_neg (by omega), if_neg (by omega)]
theorem xl_cb_lp {post : SX → Prop} {m n : Nat} (hm : m < 3) (hn : n ≤ 64) (hs : L.2.1 m = nI n) (hk : lg_k L m n) (f0 : Nat → Int32)
    (h0 : (lg_cb L (m * 64) n f0 n).2 = 0 → post (mk_X B V Q L (D.1, (lg_cb L (m * 64) n f0 n).1, D.2.2) p g))
    (h1 : ¬ (lg_cb L (m * 64) n f0 n).2 = 0 → wpX_holdLogged post (mk_X B V Q L (D.1, (lg_cb L (m * 64) n f0 n).1, D.2.2) p g) (nI m) (lg_cb L (m * 64) n f0 n).2) :
    ∀ r i f, i + r = n → r < f → wX_comeBack_33 post (nI m) f (lg_cb L (m * 64) n f0 i).2 (nI (m * 64 + i)) D.1 V.1 V.2.1 V.2.2.1 B.1 B.2.1 B.2.2.1 B.2.2.2.1 B.2.2.2.2.1 B.2.2.2.2.2.1 V.2.2.2 B.2.2.2.2.2.2 Q.1 Q.2.1 Q.2.2.1 Q.2.2.2.1 L.1 L.2.1 L.2.2.1 L.2.2.2.1 L.2.2.2.2.1 L.2.2.2.2.2 (lg_cb L (m * 64) n f0 i).1 D.2.2.1 D.2.2.2.1 D.2.2.2.2 p g Q.2.2.2.2.1 Q.2.2.2.2.2.1 Q.2.2.2.2.2.2.1 Q.2.2.2.2.2.2.2 := by
  have h4 : vp_in (nI m) 4 := vp_in_nI (by omega) (by decide)
  have e : nI m * 64 + L.2.1 (nI m).toNatClampNeg = nI (m * 64 + n) := by rw [zt_cl (by omega), zi_64, hs, nI_add]
  intro r
  induction r with
  | zero =>
    intro i f hi hf
    cases f with
    | zero => omega
    | succ f =>
      have : i = n := by omega
      subst this
      refine And.intro h4 ?_
      rw [e]
      exact br_t (nI_le (by omega) (by omega)) (br_c h0 h1)
  | succ r ih =>
    intro i f hi hf
    cases f with
    | zero => omega
    | succ f =>
      have hv : vp_in (nI (m * 64 + i)) 256 := vp_in_nI (by omega) (by decide)
      have hc : (nI (m * 64 + i)).toNatClampNeg = m * 64 + i := zt_cl (by omega)
      have go := ih (i + 1) f (by omega) (by omega)
      refine And.intro h4 ?_
      rw [e]
      refine br_f (nI_ge (by omega) (by omega)) (And.intro hv ?_)
      rw [hc]
      refine nm_e (And.intro hv (br_c (fun z => nm_r (nI_1 _) ?_) (fun z2 => And.intro hv (br_c (fun z => ?_) (fun z3 => And.intro hv (br_c (fun z => nm_r (nI_1 _) ?_) (fun z4 => nm_r (nI_1 _) ?_)))))))
      · rw [lg_cb2 z] at go
        exact go
      · rw [lg_cb3 z] at go
        exact xl_ap (D := (D.1, (lg_cb L (m * 64) n f0 i).1, D.2.2)) (by omega) hn hs hk _ (nm_r (nI_1 _) go)
      · rw [lg_cb4 z] at go
        exact go
      · rw [lg_cbn z2 z3 z4] at go
        exact go
theorem xl_cb {post : SX → Prop} {m n : Nat} (hm : m < 3) (hn : n ≤ 64) (hs : L.2.1 m = nI n) (hk : lg_k L m n)
    (h0 : (lg_cb L (m * 64) n (cb_0 m L.1 D.2.1) n).2 = 0 → post (mk_X B V Q L (D.1, (lg_cb L (m * 64) n (cb_0 m L.1 D.2.1) n).1, D.2.2) p g))
    (h1 : ¬ (lg_cb L (m * 64) n (cb_0 m L.1 D.2.1) n).2 = 0 → wpX_holdLogged post (mk_X B V Q L (D.1, (lg_cb L (m * 64) n (cb_0 m L.1 D.2.1) n).1, D.2.2) p g) (nI m) (lg_cb L (m * 64) n (cb_0 m L.1 D.2.1) n).2) :
    wpX_comeBack post (mk_X B V Q L D p g) (nI m) := by
  have st : ∀ k, k < 12 → ∀ (f : Nat → Int32) (j : Nat), wX_comeBack_2 post (nI m) D.1 V.1 V.2.1 V.2.2.1 B.1 B.2.1 B.2.2.1 B.2.2.2.1 B.2.2.2.2.1 B.2.2.2.2.2.1 V.2.2.2 B.2.2.2.2.2.2 Q.1 Q.2.1 Q.2.2.1 Q.2.2.2.1 j (nI (k + 3)) L.1 L.2.1 L.2.2.1 L.2.2.2.1 L.2.2.2.2.1 L.2.2.2.2.2 (upd f k (L.1 k)) D.2.2.1 D.2.2.2.1 D.2.2.2.2 p g Q.2.2.2.2.1 Q.2.2.2.2.2.1 Q.2.2.2.2.2.2.1 Q.2.2.2.2.2.2.2 → wX_comeBack_2 post (nI m) D.1 V.1 V.2.1 V.2.2.1 B.1 B.2.1 B.2.2.1 B.2.2.2.1 B.2.2.2.2.1 B.2.2.2.2.2.1 V.2.2.2 B.2.2.2.2.2.2 Q.1 Q.2.1 Q.2.2.1 Q.2.2.2.1 (j + 1) (nI k) L.1 L.2.1 L.2.2.1 L.2.2.2.1 L.2.2.2.2.1 L.2.2.2.2.2 f D.2.2.1 D.2.2.2.1 D.2.2.2.2 p g Q.2.2.2.2.1 Q.2.2.2.2.2.1 Q.2.2.2.2.2.2.1 Q.2.2.2.2.2.2.2 := by
    intro k hk f j q
    refine br_f (zt_le12 hk) (And.intro (vp_in_nI hk (by decide)) (And.intro (vp_in_nI hk (by decide)) ?_))
    rw [zt_cl (by omega)]
    exact nm_e (nm_r (zi_p3 k) q)
  refine Exists.intro 5 (st m (by omega) _ 4 (st (m + 3) (by omega) _ 3 (st (m + 3 + 3) (by omega) _ 2 (st (m + 3 + 3 + 3) (by omega) _ 1 ?_))))
  refine br_t (zt_ge12 (by omega) (by omega)) (nm_r (e' := nI (m * 64 + 0)) (zi_64 m) (Exists.intro (n + 1) ?_))
  exact xl_cb_lp (D := (D.1, cb_0 m L.1 D.2.1, D.2.2)) hm hn hs hk (cb_0 m L.1 D.2.1) h0 h1 n 0 (n + 1) (by omega) (by omega)
/-- coming back when nothing is in doubt: the numbers stay -/
theorem xl_cb0 {post : SX → Prop} {m n nm : Nat} (hm : m < 3) (hn : n ≤ 64) (hC : co_re A N H S C D) (hL : lg_m L m n nm N 0)
    (h : ∀ D', co_re A N H S C D' → post (mk_X B V Q L D' p g)) : wpX_comeBack post (mk_X B V Q L D p g) (nI m) := by
  obtain ⟨l1, l2, l3, l4, l5⟩ := hL
  refine xl_cb hm hn l1 l2 (fun _ => h _ ?_) (fun z => absurd ((lg_cb_o _ _ n).trans l5) z)
  obtain ⟨c1, c2, c3, c4, c5, c6⟩ := hC
  refine ⟨c1, fun k hk => ?_, c3, c4, c5, c6⟩
  show (lg_cb L (m * 64) n (cb_0 m L.1 D.2.1) n).1 k = N k
  by_cases a : k % 3 = m
  · rw [lg_cb_pt (f' := L.1) (by rw [cb_0e hm _ _ hk, if_pos a]) n]
    exact l4 k hk a
  · rw [lg_cb_out l2 _ a n (Nat.le_refl n), cb_0e hm _ _ hk, if_neg a, c2 k hk]
/-- .. and when nm is: its written keys are held again -/
theorem xl_cb1 {post : SX → Prop} {m n nm t : Nat} (hm : m < 3) (hn : n ≤ 64) (ht : t < 4) (hnm : 0 < nm) (hnm2 : nm < 10000) {b1 b2 : Int32} {b4 : Int32 × Int32 × Int32 × Int32} (hC : co_re A N H S C D) (hL : lg_m L m n nm N (nI nm))
    (hw : ∀ i, i < n → L.2.2.1 (m * 64 + i) = 1 → L.2.2.2.1 (m * 64 + i) = nI nm → ∃ k, k < 12 ∧ L.2.2.2.2.1 (m * 64 + i) = nI k ∧ (H k = 0 ∨ H k = t + 1) ∧ C k = true ∧ L.2.2.2.2.2 (m * 64 + i) = S k)
    (h : ∀ D', co_re A N (hl_H L (m * 64) (nI nm) t H n) S C D' → post (mk_X (b1, b2, nI t, b4) V Q L D' (upd p (t * 3 + m) (nI nm)) g)) : wpX_comeBack post (mk_X (b1, b2, nI t, b4) V Q L D p g) (nI m) := by
  obtain ⟨l1, l2, l3, l4, l5⟩ := hL
  have eo : (lg_cb L (m * 64) n (cb_0 m L.1 D.2.1) n).2 = nI nm := (lg_cb_o _ _ n).trans l5
  refine xl_cb hm hn l1 l2 (fun z => absurd (eo.symm.trans z) (nI_ne0 hnm (by omega))) (fun _ => ?_)
  rw [eo]
  refine xl_hl hm hn ht l1 (nI nm) (H := H) ?_ hw h
  obtain ⟨c1, c2, c3, c4, c5, c6⟩ := hC
  refine ⟨c1, fun k hk => ?_, c3, c4, c5, c6⟩
  show (lg_cb L (m * 64) n (cb_0 m L.1 D.2.1) n).1 k = N k
  by_cases a : k % 3 = m
  · rw [lg_cb_pt (f' := L.1) (by rw [cb_0e hm _ _ hk, if_pos a]) n]
    exact l4 k hk a
  · rw [lg_cb_out l2 _ a n (Nat.le_refl n), cb_0e hm _ _ hk, if_neg a, c2 k hk]
end
end
section
/-! ===== promising; shortening ===== -/
theorem pw_hl {L : ty_L} {m n nm t : Nat} {H0 : Nat → Nat} {S : Nat → Int32} {C : Nat → Bool} (h1 : pw_1 L m n nm t H0 S C) (H : Nat → Nat) {k : Nat} (hk : k < 12) :
    ∀ i, i ≤ n → ((∃ j, j < i ∧ L.2.2.1 (m * 64 + j) = 1 ∧ L.2.2.2.1 (m * 64 + j) = nI nm ∧ L.2.2.2.2.1 (m * 64 + j) = nI k) → hl_H L (m * 64) (nI nm) t H i k = t + 1) ∧
      (¬ (∃ j, j < i ∧ L.2.2.1 (m * 64 + j) = 1 ∧ L.2.2.2.1 (m * 64 + j) = nI nm ∧ L.2.2.2.2.1 (m * 64 + j) = nI k) → hl_H L (m * 64) (nI nm) t H i k = H k) := by
  intro i
  induction i with
  | zero => intro _; exact ⟨fun ⟨j, hj, _⟩ => absurd hj (Nat.not_lt_zero j), fun _ => rfl⟩
  | succ i ih =>
    intro hi
    obtain ⟨ih1, ih2⟩ := ih (by omega)
    by_cases c : L.2.2.1 (m * 64 + i) = 1 ∧ L.2.2.2.1 (m * 64 + i) = nI nm
    · obtain ⟨k', a1, a2, a3, a4, a5, a6⟩ := h1 i (by omega) c.1 c.2
      rw [hl_1 c, a3, zt_cl (by omega)]
      by_cases e : k = k'
      · subst e
        refine ⟨fun _ => if_pos rfl, fun q => absurd ⟨i, by omega, c.1, c.2, a3⟩ q⟩
      · have ne : ¬ nI k' = nI k := zt_ne (fun z => e z.symm) (by omega) (by omega)
        have eu : zt_un (hl_H L (m * 64) (nI nm) t H i) k' (t + 1) k = hl_H L (m * 64) (nI nm) t H i k := if_neg e
        refine ⟨fun q => ?_, fun q => ?_⟩
        · obtain ⟨j, b1, b2, b3, b4⟩ := q
          rw [eu]
          refine ih1 ⟨j, ?_, b2, b3, b4⟩
          rcases Nat.lt_or_ge j i with z | z
          · exact z
          · have : j = i := by omega
            subst this
            rw [a3] at b4
            exact absurd b4 ne
        · rw [eu]
          exact ih2 (fun ⟨j, b1, b⟩ => q ⟨j, by omega, b⟩)
    · rw [hl_0 c]
      refine ⟨fun q => ?_, fun q => ih2 (fun ⟨j, b1, b⟩ => q ⟨j, by omega, b⟩)⟩
      obtain ⟨j, b1, b2, b3, b4⟩ := q
      refine ih1 ⟨j, ?_, b2, b3, b4⟩
      rcases Nat.lt_or_ge j i with z | z
      · exact z
      · have : j = i := by omega
        subst this
        exact absurd ⟨b2, b3⟩ c
theorem pw_hln {L : ty_L} {m n nm t : Nat} {H0 : Nat → Nat} {S : Nat → Int32} {C : Nat → Bool} (h1 : pw_1 L m n nm t H0 S C) (h2 : pw_2 L m n nm t H0 C 12) (H : Nat → Nat) {k : Nat} (hk : k < 12) :
    hl_H L (m * 64) (nI nm) t H n k = if k % 3 = m ∧ H0 k = t + 1 ∧ C k = true then t + 1 else H k := by
  obtain ⟨a, b⟩ := pw_hl h1 H hk n (Nat.le_refl n)
  by_cases c : k % 3 = m ∧ H0 k = t + 1 ∧ C k = true
  · rw [if_pos c]
    exact a (h2 k hk hk c.1 c.2.1 c.2.2)
  · rw [if_neg c]
    refine b (fun ⟨j, b1, b2, b3, b4⟩ => ?_)
    obtain ⟨k', a1, a2, a3, a4, a5, a6⟩ := h1 j b1 b2 b3
    rw [b4, nI_eq (by omega) (by omega)] at a3
    subst a3
    exact c ⟨a2, a4, a5⟩
theorem pw_1_A {L : ty_L} {m n nm t : Nat} {H : Nat → Nat} {S : Nat → Int32} {C : Nat → Bool} {kd ky v : Int32} (h : pw_1 L m n nm t H S C)
    (hn : kd = 1 → ∃ k, k < 12 ∧ k % 3 = m ∧ ky = nI k ∧ H k = t + 1 ∧ C k = true ∧ v = S k) : pw_1 (lg_A L m n kd (nI nm) ky v) m (n + 1) nm t H S C := by
  intro i hi h1 h2
  rcases Nat.lt_or_ge i n with z | z
  · obtain ⟨e1, e2, e3, e4⟩ := lg_A_eq L m n kd (nI nm) ky v i z
    rw [e1] at h1; rw [e2] at h2; rw [e3, e4]
    exact h i z h1 h2
  · have : i = n := by omega
    subst this
    obtain ⟨e1, e2, e3, e4⟩ := lg_A_at L m i kd (nI nm) ky v
    rw [e1] at h1; rw [e3, e4]
    exact hn h1
theorem pw_2_A {L : ty_L} {m n nm t K : Nat} {H : Nat → Nat} {C : Nat → Bool} (kd x ky v : Int32) (h : pw_2 L m n nm t H C K) : pw_2 (lg_A L m n kd x ky v) m (n + 1) nm t H C K := by
  intro k hK hk hm h1 h2
  obtain ⟨i, a1, a2, a3, a4⟩ := h k hK hk hm h1 h2
  obtain ⟨e1, e2, e3, e4⟩ := lg_A_eq L m n kd x ky v i a1
  exact ⟨i, by omega, e1.trans a2, e2.trans a3, e3.trans a4⟩
theorem pw_2_W {L : ty_L} {m n nm t k : Nat} {H : Nat → Nat} {C : Nat → Bool} (v : Int32) (hkm : k % 3 = m) (h : pw_2 L m n nm t H C k) : pw_2 (lg_A L m n 1 (nI nm) (nI k) v) m (n + 1) nm t H C (k + 3) := by
  intro k' hK hk hm h1 h2
  rcases Nat.lt_or_ge k' k with z | z
  · exact pw_2_A _ _ _ _ h k' z hk hm h1 h2
  · have : k' = k := by omega
    subst this
    obtain ⟨e1, e2, e3, e4⟩ := lg_A_at L m n 1 (nI nm) (nI k') v
    exact ⟨n, by omega, e1, e2, e3⟩
theorem pw_2_N {L : ty_L} {m n nm t k : Nat} {H : Nat → Nat} {C : Nat → Bool} (hkm : k % 3 = m) (hn : ¬ (H k = t + 1 ∧ C k = true)) (h : pw_2 L m n nm t H C k) : pw_2 L m n nm t H C (k + 3) := by
  intro k' hK hk hm h1 h2
  rcases Nat.lt_or_ge k' k with z | z
  · exact h k' z hk hm h1 h2
  · have : k' = k := by omega
    subst this
    exact absurd ⟨h1, h2⟩ hn
theorem lg_dn_A {L : ty_L} {m n : Nat} {y kd x ky v : Int32} (h : lg_dn L m n y) (hn : kd ≠ 3) : lg_dn (lg_A L m n kd x ky v) m (n + 1) y := by
  intro i hi h3
  rcases Nat.lt_or_ge i n with z | z
  · obtain ⟨e1, e2, e3, e4⟩ := lg_A_eq L m n kd x ky v i z
    rw [e1] at h3; rw [e2]
    exact h i z h3
  · have : i = n := by omega
    subst this
    rw [(lg_A_at L m i kd x ky v).1] at h3
    exact absurd h3 hn
section
variable {A : Nat → Bool} {N : Nat → Int32} {H : Nat → Nat} {S : Nat → Int32} {C : Nat → Bool}
variable {B : ty_B} {V : ty_V} {Q : ty_Q} {L : ty_L} {D : ty_D} {p g : Nat → Int32}
theorem xp_lp {post : SX → Prop} {m nm t : Nat} (hm : m < 3) (ht : t < 4) {b1 : Int32} {b4 : Int32 × Int32 × Int32 × Int32} (hC : co_re A N H S C D)
    (h : ∀ L' n', n' ≤ 45 → lg_fr m L L' → lg_m L' m n' nm N (nI nm) → lg_dn L' m n' (nI nm) → pw_1 L' m n' nm t H S C → pw_2 L' m n' nm t H C 12 → post (mk_X (b1, nI nm, nI t, b4) V Q L' D (upd p (t * 3 + m) (nI nm)) g)) :
    ∀ r k f L' n', k + 3 * r = m + 12 → r < f → n' + r ≤ 44 → lg_fr m L L' → lg_m L' m n' nm N 0 → lg_dn L' m n' (nI nm) → pw_1 L' m n' nm t H S C → pw_2 L' m n' nm t H C k →
      wX_promiseOn_2 post (nI m) f (nI k) D.1 V.1 V.2.1 V.2.2.1 (b1, nI nm, nI t, b4).1 (b1, nI nm, nI t, b4).2.1 (b1, nI nm, nI t, b4).2.2.1 (b1, nI nm, nI t, b4).2.2.2.1 (b1, nI nm, nI t, b4).2.2.2.2.1 (b1, nI nm, nI t, b4).2.2.2.2.2.1 V.2.2.2 (b1, nI nm, nI t, b4).2.2.2.2.2.2 Q.1 Q.2.1 Q.2.2.1 Q.2.2.2.1 L'.1 L'.2.1 L'.2.2.1 L'.2.2.2.1 L'.2.2.2.2.1 L'.2.2.2.2.2 D.2.1 D.2.2.1 D.2.2.2.1 D.2.2.2.2 p g Q.2.2.2.2.1 Q.2.2.2.2.2.1 Q.2.2.2.2.2.2.1 Q.2.2.2.2.2.2.2 := by
  intro r
  induction r with
  | zero =>
    intro k f L' n' hk hf hn hfr hl hd h1 h2
    cases f with
    | zero => omega
    | succ f =>
      refine br_t (zt_ge12 (by omega) (by omega)) ?_
      refine xl_log (B := (b1, nI nm, nI t, b4)) (L := L') (n := n') (kd := 2) (ky := 0) (by omega) (by omega) hl.1 (by decide) (by decide) (nI nm) 0 ?_
      refine And.intro (pk_in (t * 3 + m) 12 (by omega) (zi_3 t m)) (nm_r (e' := upd p (t * 3 + m) (nI nm)) (congrArg (fun j => upd p j (nI nm)) (zt_ci (zi_3 t m) (by omega))) ?_)
      exact h _ (n' + 1) (by omega) (lg_fr_tr hfr (lg_fr_A L' m n' 2 (nI nm) 0 0 (by omega))) (lg_prom hl) (lg_dn_A hd (by decide)) (pw_1_A h1 (fun z => absurd z (by decide)))
        (pw_2_A 2 (nI nm) 0 0 (fun k' a b => h2 k' (by omega) b))
  | succ r ih =>
    intro k f L' n' hk hf hn hfr hl hd h1 h2
    cases f with
    | zero => omega
    | succ f =>
      have hk12 : k < 12 := by omega
      refine br_f (zt_le12 hk12) ?_
      by_cases c : H k = t + 1 ∧ C k = true
      · have ew : D.2.2.2.2 (nI t * 12 + nI k).toNatClampNeg = S k := by rw [zi_12, zt_cl (by omega)]; exact hC.2.2.2.2.1 t ht k hk12 c.1 c.2
        refine xa_has1 (B := (b1, nI nm, nI t, b4)) (L := L') hC ht hk12 c.1 c.2 (br_f (by decide) (And.intro (pk_in (t * 12 + k) 48 (by omega) (zi_12 t k)) ?_))
        refine xl_log (B := (b1, nI nm, nI t, b4)) (L := L') (n := n') (kd := 1) (ky := k) (by omega) (by omega) hl.1 (by decide) (by omega) (nI nm) (D.2.2.2.2 (nI t * 12 + nI k).toNatClampNeg) ?_
        exact nm_r (zi_p3 k) (ih (k + 3) f _ (n' + 1) (by omega) (by omega) (by omega) (lg_fr_tr hfr (lg_fr_A L' m n' 1 (nI nm) (nI k) _ (by omega))) (lg_write hl hd hk12 (by omega)) (lg_dn_A hd (by decide))
          (pw_1_A h1 (fun _ => ⟨k, hk12, by omega, rfl, c.1, c.2, ew⟩)) (pw_2_W _ (by omega) h2))
      · refine xa_has0 (B := (b1, nI nm, nI t, b4)) (L := L') hC ht hk12 c (br_t rfl ?_)
        exact nm_r (zi_p3 k) (ih (k + 3) f L' n' (by omega) (by omega) (by omega) hfr hl hd h1 (pw_2_N (by omega) c h2))
theorem xp_prom {post : SX → Prop} {m n nm t : Nat} (hm : m < 3) (ht : t < 4) {b1 : Int32} {b4 : Int32 × Int32 × Int32 × Int32} (hC : co_re A N H S C D) (hn : n ≤ 40) (hl : lg_m L m n nm N 0) (hnw : ∀ i, i < n → L.2.2.2.1 (m * 64 + i) ≠ nI nm)
    (h : ∀ L' n', n' ≤ 45 → lg_fr m L L' → lg_m L' m n' nm N (nI nm) → lg_dn L' m n' (nI nm) → pw_1 L' m n' nm t H S C → pw_2 L' m n' nm t H C 12 → post (mk_X (b1, nI nm, nI t, b4) V Q L' D (upd p (t * 3 + m) (nI nm)) g)) :
    wpX_promiseOn post (mk_X (b1, nI nm, nI t, b4) V Q L D p g) (nI m) := by
  refine Exists.intro 5 (xp_lp hm ht hC h 4 m 5 L n (by omega) (by omega) (by omega) (lg_fr_rf m L) hl (fun i hi _ => hnw i hi) (fun i hi _ q => absurd q (hnw i hi)) (fun k a b c => ?_))
  omega
/-! shortening -/
def sh_L (L : ty_L) (m : Nat) (nb : Nat → Int32) : ty_L := (cb_0 m nb L.1, upd L.2.1 m 0, L.2.2)
def ld_r (L : ty_L) (n nm : Nat) : Prop := L.2.1 3 = nI n ∧ ∀ i, i < n → ∃ a, a ≤ nm ∧ L.2.2.2.1 (3 * 64 + i) = nI a
def il_g (L : ty_L) (nm : Nat) (N : Nat → Int32) : Prop := (∀ m, m < 3 → ∃ n, n ≤ 40 ∧ lg_m L m n nm N 0) ∧ ∃ n, n ≤ 40 ∧ ld_r L n nm
theorem lg_m_g {L' : ty_L} {m n nm : Nat} {o : Int32} (h : lg_m L m n nm N o) (hs : L'.2.1 m = L.2.1 m) (e : lg_eq L L' (m * 64) n) (hi : ∀ k, k < 12 → k % 3 = m → L'.1 k = L.1 k) : lg_m L' m n nm N o := by
  obtain ⟨h1, h2, h3, h4, h5⟩ := h
  refine ⟨hs.trans h1, lg_k_e h2 e, fun i hi => ?_, fun k hk hq => ?_, ?_⟩
  · rw [(e i hi).2.1]; exact h3 i hi
  · rw [lg_cb_eq e _ n (Nat.le_refl n), lg_cb_pt (hi k hk hq) n]; exact h4 k hk hq
  · rw [lg_cb_eq e _ n (Nat.le_refl n), lg_cb_o _ L.1 n]; exact h5
theorem sh_o {m m' n nm : Nat} {nb : Nat → Int32} (hm : m < 3) (h : lg_m L m' n nm N 0) (hne : m' ≠ m) : lg_m (sh_L L m nb) m' n nm N 0 :=
  lg_m_g h (if_neg hne) (fun _ _ => ⟨rfl, rfl, rfl, rfl⟩) (fun k hk hq => by show cb_0 m nb L.1 k = L.1 k; rw [cb_0e hm _ _ hk, if_neg (by omega)])
theorem sh_s {m nm : Nat} {nb : Nat → Int32} (hm : m < 3) (hb : ∀ k, k < 12 → nb k = N k) : lg_m (sh_L L m nb) m 0 nm N 0 :=
  lg_empty (if_pos rfl) (fun k hk hq => by show cb_0 m nb L.1 k = N k; rw [cb_0e hm _ _ hk, if_pos hq, hb k hk])
theorem xs_st {post : SX → Prop} {m n j : Nat} (hm : m < 3) (hn : n ≤ 64) (hs : L.2.1 m = nI n) (h0 : n ≤ 40 → wX_shortenLogs_2 post D.1 V.1 V.2.1 V.2.2.1 B.1 B.2.1 B.2.2.1 B.2.2.2.1 B.2.2.2.2.1 B.2.2.2.2.2.1 V.2.2.2 B.2.2.2.2.2.2 Q.1 Q.2.1 Q.2.2.1 Q.2.2.2.1 j (nI (m + 1)) L.1 L.2.1 L.2.2.1 L.2.2.2.1 L.2.2.2.2.1 L.2.2.2.2.2 D.2.1 D.2.2.1 D.2.2.2.1 D.2.2.2.2 p g Q.2.2.2.2.1 Q.2.2.2.2.2.1 Q.2.2.2.2.2.2.1 Q.2.2.2.2.2.2.2)
    (h1 : 40 < n → wX_shortenLogs_2 post D.1 V.1 V.2.1 V.2.2.1 B.1 B.2.1 B.2.2.1 B.2.2.2.1 B.2.2.2.2.1 B.2.2.2.2.2.1 V.2.2.2 B.2.2.2.2.2.2 Q.1 Q.2.1 Q.2.2.1 Q.2.2.2.1 j (nI (m + 1)) (sh_L L m D.2.1).1 (sh_L L m D.2.1).2.1 (sh_L L m D.2.1).2.2.1 (sh_L L m D.2.1).2.2.2.1 (sh_L L m D.2.1).2.2.2.2.1 (sh_L L m D.2.1).2.2.2.2.2 D.2.1 D.2.2.1 D.2.2.2.1 D.2.2.2.2 p g Q.2.2.2.2.1 Q.2.2.2.2.2.1 Q.2.2.2.2.2.2.1 Q.2.2.2.2.2.2.2) : wX_shortenLogs_2 post D.1 V.1 V.2.1 V.2.2.1 B.1 B.2.1 B.2.2.1 B.2.2.2.1 B.2.2.2.2.1 B.2.2.2.2.2.1 V.2.2.2 B.2.2.2.2.2.2 Q.1 Q.2.1 Q.2.2.1 Q.2.2.2.1 (j + 1) (nI m) L.1 L.2.1 L.2.2.1 L.2.2.2.1 L.2.2.2.2.1 L.2.2.2.2.2 D.2.1 D.2.2.1 D.2.2.2.1 D.2.2.2.2 p g Q.2.2.2.2.1 Q.2.2.2.2.2.1 Q.2.2.2.2.2.2.1 Q.2.2.2.2.2.2.2 := by
  refine br_f (nI_ge (b := 3) hm (by decide)) (And.intro (vp_in_nI (by omega) (by decide)) ?_)
  rw [zt_cl (by omega)]
  have st : ∀ k, k < 12 → ∀ (f : Nat → Int32) (i : Nat), wX_shortenLogs_20 post (wX_shortenLogs_2 post D.1 V.1 V.2.1 V.2.2.1 B.1 B.2.1 B.2.2.1 B.2.2.2.1 B.2.2.2.2.1 B.2.2.2.2.2.1 V.2.2.2 B.2.2.2.2.2.2 Q.1 Q.2.1 Q.2.2.1 Q.2.2.2.1 j) (nI m) D.1 V.1 V.2.1 V.2.2.1 B.1 B.2.1 B.2.2.1 B.2.2.2.1 B.2.2.2.2.1 B.2.2.2.2.2.1 V.2.2.2 B.2.2.2.2.2.2 Q.1 Q.2.1 Q.2.2.1 Q.2.2.2.1 i (nI (k + 3)) (upd f k (D.2.1 k)) L.2.1 L.2.2.1 L.2.2.2.1 L.2.2.2.2.1 L.2.2.2.2.2 D.2.1 D.2.2.1 D.2.2.2.1 D.2.2.2.2 p g Q.2.2.2.2.1 Q.2.2.2.2.2.1 Q.2.2.2.2.2.2.1 Q.2.2.2.2.2.2.2 → wX_shortenLogs_20 post (wX_shortenLogs_2 post D.1 V.1 V.2.1 V.2.2.1 B.1 B.2.1 B.2.2.1 B.2.2.2.1 B.2.2.2.2.1 B.2.2.2.2.2.1 V.2.2.2 B.2.2.2.2.2.2 Q.1 Q.2.1 Q.2.2.1 Q.2.2.2.1 j) (nI m) D.1 V.1 V.2.1 V.2.2.1 B.1 B.2.1 B.2.2.1 B.2.2.2.1 B.2.2.2.2.1 B.2.2.2.2.2.1 V.2.2.2 B.2.2.2.2.2.2 Q.1 Q.2.1 Q.2.2.1 Q.2.2.2.1 (i + 1) (nI k) f L.2.1 L.2.2.1 L.2.2.2.1 L.2.2.2.2.1 L.2.2.2.2.2 D.2.1 D.2.2.1 D.2.2.2.1 D.2.2.2.2 p g Q.2.2.2.2.1 Q.2.2.2.2.2.1 Q.2.2.2.2.2.2.1 Q.2.2.2.2.2.2.2 := by
    intro k hk f i q
    refine br_f (zt_le12 hk) (And.intro (vp_in_nI hk (by decide)) (And.intro (vp_in_nI hk (by decide)) ?_))
    rw [zt_cl (by omega)]
    exact nm_e (nm_r (zi_p3 k) q)
  refine pk_le (x := L.2.1 m) (y := 40) n 40 (fun z => nm_r (nI_1 _) (h0 z)) (fun z => ?_) hs rfl
  refine Exists.intro 5 (st m (by omega) _ 4 (st (m + 3) (by omega) _ 3 (st (m + 3 + 3) (by omega) _ 2 (st (m + 3 + 3 + 3) (by omega) _ 1 ?_))))
  refine br_t (zt_ge12 (by omega) (by omega)) (And.intro (vp_in_nI (by omega) (by decide)) (nm_r (e' := upd L.2.1 m 0) (by rw [zt_cl (by omega)]) (nm_r (nI_1 _) (h1 z))))
theorem xs_short {post : SX → Prop} {nm : Nat} (hC : co_re A N H S C D) (hL : ∀ m, m < 3 → ∃ n, n ≤ 46 ∧ lg_m L m n nm N 0) (hl : ∃ n, n ≤ 46 ∧ ld_r L n nm)
    (h : ∀ L', il_g L' nm N → post (mk_X B V Q L' D p g)) : wpX_shortenLogs post (mk_X B V Q L D p g) := by
  have go : ∀ r m j (L : ty_L), m + r = 3 → r < j → (∀ m', m' < 3 → ∃ n, (n ≤ if m' < m then 40 else 46) ∧ lg_m L m' n nm N 0) → (∃ n, n ≤ 46 ∧ ld_r L n nm) → wX_shortenLogs_2 post D.1 V.1 V.2.1 V.2.2.1 B.1 B.2.1 B.2.2.1 B.2.2.2.1 B.2.2.2.2.1 B.2.2.2.2.2.1 V.2.2.2 B.2.2.2.2.2.2 Q.1 Q.2.1 Q.2.2.1 Q.2.2.2.1 j (nI m) L.1 L.2.1 L.2.2.1 L.2.2.2.1 L.2.2.2.2.1 L.2.2.2.2.2 D.2.1 D.2.2.1 D.2.2.2.1 D.2.2.2.2 p g Q.2.2.2.2.1 Q.2.2.2.2.2.1 Q.2.2.2.2.2.2.1 Q.2.2.2.2.2.2.2 := by
    intro r
    induction r with
    | zero =>
      intro m j L hm hj hL hl
      cases j with
      | zero => omega
      | succ j =>
        obtain ⟨n, hn, hs, hi⟩ := hl
        refine br_t (nI_le (a := 3) (by omega) (by omega)) ?_
        have hL' : ∀ m', m' < 3 → ∃ n, n ≤ 40 ∧ lg_m L m' n nm N 0 := by
          intro m' hm'
          have := hL m' hm'
          rw [if_pos (by omega)] at this
          exact this
        refine pk_le (x := L.2.1 3) (y := 40) n 40 (fun z => h L ⟨hL', n, z, hs, hi⟩) (fun z => nm_e (h (L.1, upd L.2.1 3 0, L.2.2) ⟨fun m' hm' => ?_, 0, by omega, by show upd L.2.1 3 0 3 = nI 0; rw [pk_us]; rfl, fun i hi => absurd hi (Nat.not_lt_zero i)⟩)) hs rfl
        obtain ⟨n', a, b⟩ := hL' m' hm'
        exact ⟨n', a, lg_m_g b (if_neg (by omega)) (fun _ _ => ⟨rfl, rfl, rfl, rfl⟩) (fun _ _ _ => rfl)⟩
    | succ r ih =>
      intro m j L hm hj hL hl
      cases j with
      | zero => omega
      | succ j =>
        obtain ⟨n, hn, hg⟩ := hL m (by omega)
        rw [if_neg (by omega)] at hn
        refine xs_st (by omega) (by omega) hg.1 (fun z => ih (m + 1) j L (by omega) (by omega) (fun m' hm' => ?_) hl) (fun z => ih (m + 1) j (sh_L L m D.2.1) (by omega) (by omega) (fun m' hm' => ?_) ?_)
        · by_cases e : m' = m
          · subst e; exact ⟨n, by rw [if_pos (by omega)]; exact z, hg⟩
          · obtain ⟨n', a, b⟩ := hL m' hm'
            refine ⟨n', ?_, b⟩
            by_cases q : m' < m
            · rw [if_pos q] at a; rw [if_pos (by omega)]; exact a
            · rw [if_neg q] at a; rw [if_neg (by omega)]; exact a
        · by_cases e : m' = m
          · subst e; exact ⟨0, by omega, sh_s (by omega) hC.2.1⟩
          · obtain ⟨n', a, b⟩ := hL m' hm'
            refine ⟨n', ?_, sh_o (by omega) b e⟩
            by_cases q : m' < m
            · rw [if_pos q] at a; rw [if_pos (by omega)]; exact a
            · rw [if_neg q] at a; rw [if_neg (by omega)]; exact a
        · obtain ⟨n', a, b1, b2⟩ := hl
          exact ⟨n', a, (if_neg (by omega)).trans b1, b2⟩
  refine Exists.intro 4 (go 3 0 4 L (by omega) (by omega) (fun m' hm' => ?_) hl)
  rw [if_neg (by omega)]
  exact hL m' hm'
end
end
section
/-! ===== breaking down ===== -/
def cn_t (K : Nat → Bool) : Nat → Nat
  | 0 => 0
  | i + 1 => if K i = true then cn_t K i + 1 else cn_t K i
theorem cn_le (K : Nat → Bool) : ∀ i, cn_t K i ≤ i
  | 0 => Nat.le_refl _
  | i + 1 => by
    have := cn_le K i
    unfold cn_t
    split <;> omega
def up_K (K : Nat → Bool) (i : Nat) : Nat → Bool := fun t => decide (t < i) && K t
theorem kl_Hn {K H} {i : Nat} (hK : K i = false) (k : Nat) : kl_H (up_K K (i + 1)) H k = kl_H (up_K K i) H k := by
  unfold kl_H up_K
  by_cases a : H k = i + 1
  · rw [a]; simp [hK]
  · by_cases b : H k = 0
    · simp [b]
    · have : (H k - 1 < i + 1) = (H k - 1 < i) := by apply propext; omega
      simp only [this]
theorem kl_Hy {K H} {i : Nat} (hK : K i = true) (k : Nat) : kl_H (up_K K (i + 1)) H k = kl_H (kl_1 i) (kl_H (up_K K i) H) k := by
  unfold kl_H up_K kl_1
  by_cases a : H k = i + 1
  · rw [a]; simp [hK]
  · by_cases b : H k = 0
    · simp [b]
    · have : (H k - 1 < i + 1) = (H k - 1 < i) := by apply propext; omega
      simp only [this]
      by_cases c : H k ≠ 0 ∧ (decide (H k - 1 < i) && K (H k - 1)) = true
      · simp only [if_pos c]; simp
      · simp only [if_neg c]
        have : ¬ (H k ≠ 0 ∧ decide (H k - 1 = i) = true) := by rw [decide_eq_true_eq]; omega
        rw [if_neg this]
theorem kl_An {K A : Nat → Bool} {i : Nat} (hK : K i = false) (t : Nat) : kl_A (up_K K (i + 1)) A t = kl_A (up_K K i) A t := by
  unfold kl_A up_K
  by_cases a : t = i
  · subst a; simp [hK]
  · have : (t < i + 1) = (t < i) := by apply propext; omega
    simp only [this]
theorem kl_Ay {K A : Nat → Bool} {i : Nat} (hK : K i = true) (t : Nat) : kl_A (up_K K (i + 1)) A t = kl_A (kl_1 i) (kl_A (up_K K i) A) t := by
  unfold kl_A up_K kl_1
  by_cases a : t = i
  · subst a; simp [hK]
  · have : (t < i + 1) = (t < i) := by apply propext; omega
    simp only [this]
    simp [a]
def bd_q (m : Nat) (hit ex : Nat → Bool) (i t k : Nat) : Prop := t < i ∧ hit t = true ∧ (ex t = true → k % 3 = m)
noncomputable def bd_H (m : Nat) (hit ex : Nat → Bool) (i : Nat) (H : Nat → Nat) : Nat → Nat := fun k => @ite Nat (H k ≠ 0 ∧ bd_q m hit ex i (H k - 1) k) (Classical.propDecidable _) 0 (H k)
noncomputable def bd_P (m : Nat) (hit ex : Nat → Bool) (i : Nat) (p : Nat → Int32) : Nat → Int32 := fun j => @ite Int32 (bd_q m hit ex i (j / 3) (j % 3)) (Classical.propDecidable _) 0 (p j)
noncomputable def bd_G (m : Nat) (hit ex : Nat → Bool) (i : Nat) (g : Nat → Int32) : Nat → Int32 := fun j => @ite Int32 (j / 3 < i ∧ hit (j / 3) = true ∧ ex (j / 3) = true ∧ j % 3 = m) (Classical.propDecidable _) 1 (g j)
theorem bd_H1 {m hit ex i H} {k : Nat} (h : H k ≠ 0 ∧ bd_q m hit ex i (H k - 1) k) : bd_H m hit ex i H k = 0 := if_pos h
theorem bd_H0 {m hit ex i H} {k : Nat} (h : ¬ (H k ≠ 0 ∧ bd_q m hit ex i (H k - 1) k)) : bd_H m hit ex i H k = H k := if_neg h
theorem bd_P1 {m hit ex i p} {j : Nat} (h : bd_q m hit ex i (j / 3) (j % 3)) : bd_P m hit ex i p j = 0 := if_pos h
theorem bd_P0 {m hit ex i p} {j : Nat} (h : ¬ bd_q m hit ex i (j / 3) (j % 3)) : bd_P m hit ex i p j = p j := if_neg h
theorem bd_G1 {m hit ex i g} {j : Nat} (h : j / 3 < i ∧ hit (j / 3) = true ∧ ex (j / 3) = true ∧ j % 3 = m) : bd_G m hit ex i g j = 1 := if_pos h
theorem bd_G0 {m hit ex i g} {j : Nat} (h : ¬ (j / 3 < i ∧ hit (j / 3) = true ∧ ex (j / 3) = true ∧ j % 3 = m)) : bd_G m hit ex i g j = g j := if_neg h
theorem bd_qs {m hit ex i t k} (h : t ≠ i) : bd_q m hit ex (i + 1) t k ↔ bd_q m hit ex i t k := by
  unfold bd_q
  constructor
  · rintro ⟨a, b⟩; exact ⟨by omega, b⟩
  · rintro ⟨a, b⟩; exact ⟨by omega, b⟩
theorem bd_qn {m hit ex i k} : ¬ bd_q m hit ex i i k := fun h => absurd h.1 (Nat.lt_irrefl i)
theorem bd_Hs {m hit ex i H} {k : Nat} (h : H k ≠ i + 1) : bd_H m hit ex (i + 1) H k = bd_H m hit ex i H k := by
  by_cases b : H k = 0
  · rw [bd_H0 (fun q => q.1 b), bd_H0 (fun q => q.1 b)]
  · by_cases c : bd_q m hit ex i (H k - 1) k
    · rw [bd_H1 ⟨b, c⟩, bd_H1 ⟨b, (bd_qs (by omega)).mpr c⟩]
    · rw [bd_H0 (fun q => c q.2), bd_H0 (fun q => c ((bd_qs (by omega)).mp q.2))]
theorem bd_Hi {m hit ex i H} {k : Nat} (h : H k = i + 1) : bd_H m hit ex i H k = i + 1 := by
  rw [bd_H0, h]
  rintro ⟨a, b⟩
  rw [h] at b
  exact bd_qn b
theorem bd_Hle {m hit ex i H} {k : Nat} : bd_H m hit ex i H k = 0 ∨ bd_H m hit ex i H k = H k := by
  by_cases c : H k ≠ 0 ∧ bd_q m hit ex i (H k - 1) k
  · exact Or.inl (bd_H1 c)
  · exact Or.inr (bd_H0 c)
theorem bd_Hn {m hit ex i H} (hi : hit i = false) (k : Nat) : bd_H m hit ex (i + 1) H k = bd_H m hit ex i H k := by
  by_cases a : H k = i + 1
  · rw [bd_Hi a, bd_H0, a]
    rintro ⟨_, _, b, _⟩
    rw [a] at b
    exact absurd (hi.symm.trans b) (by decide)
  · exact bd_Hs a
theorem bd_Hx {m hit ex i H} (hi : hit i = true) (he : ex i = true) (k : Nat) : bd_H m hit ex (i + 1) H k = rl_m i m (bd_H m hit ex i H) k := by
  unfold rl_m
  by_cases a : H k = i + 1
  · rw [bd_Hi a]
    by_cases c : k % 3 = m
    · rw [if_pos ⟨c, rfl⟩, bd_H1]
      rw [a]
      exact ⟨by omega, by show i < i + 1; omega, hi, fun _ => c⟩
    · rw [if_neg (fun q => c q.1), bd_H0, a]
      rintro ⟨_, _, _, b⟩
      rw [a] at b
      exact c (b he)
  · rw [bd_Hs a, if_neg]
    rintro ⟨_, b⟩
    rcases bd_Hle (m := m) (hit := hit) (ex := ex) (i := i) (H := H) (k := k) with q | q <;> omega
theorem bd_Hy {m hit ex i H} (hi : hit i = true) (he : ex i = false) (k : Nat) : bd_H m hit ex (i + 1) H k = kl_H (kl_1 i) (rl_m i m (bd_H m hit ex i H)) k := by
  unfold kl_H kl_1 rl_m
  by_cases a : H k = i + 1
  · rw [bd_Hi a, bd_H1]
    · by_cases c : k % 3 = m
      · simp [c]
      · simp [c]
    · rw [a]
      exact ⟨by omega, by show i < i + 1; omega, hi, fun q => absurd (he.symm.trans q) (by decide)⟩
  · rw [bd_Hs a]
    have n : ¬ bd_H m hit ex i H k = i + 1 := by
      rcases bd_Hle (m := m) (hit := hit) (ex := ex) (i := i) (H := H) (k := k) with q | q <;> omega
    have n2 : (if k % 3 = m ∧ bd_H m hit ex i H k = i + 1 then 0 else bd_H m hit ex i H k) = bd_H m hit ex i H k := if_neg (fun q => n q.2)
    rw [n2, if_neg]
    rw [decide_eq_true_eq]
    omega
theorem bd_Ps {m hit ex i p} {j : Nat} (h : j / 3 ≠ i) : bd_P m hit ex (i + 1) p j = bd_P m hit ex i p j := by
  by_cases c : bd_q m hit ex i (j / 3) (j % 3)
  · rw [bd_P1 c, bd_P1 ((bd_qs h).mpr c)]
  · rw [bd_P0 c, bd_P0 (fun q => c ((bd_qs h).mp q))]
theorem bd_Pi {m hit ex i p} {j : Nat} (h : j / 3 = i) : bd_P m hit ex i p j = p j := bd_P0 (fun q => bd_qn (h ▸ q))
theorem bd_Pn {m hit ex i p} (hi : hit i = false) (j : Nat) : bd_P m hit ex (i + 1) p j = bd_P m hit ex i p j := by
  by_cases a : j / 3 = i
  · rw [bd_Pi a, bd_P0]
    rintro ⟨_, b, _⟩
    rw [a] at b
    exact absurd (hi.symm.trans b) (by decide)
  · exact bd_Ps a
theorem bd_Px {m hit ex i p} (hm : m < 3) (hi : hit i = true) (he : ex i = true) (j : Nat) : bd_P m hit ex (i + 1) p j = upd (bd_P m hit ex i p) (i * 3 + m) 0 j := by
  unfold upd
  by_cases a : j / 3 = i
  · by_cases c : j % 3 = m
    · rw [if_pos (by omega), bd_P1]
      rw [a]
      exact ⟨by omega, hi, fun _ => by rw [Nat.mod_mod]; exact c⟩
    · rw [if_neg (by omega), bd_Pi a, bd_P0]
      rintro ⟨_, _, b⟩
      rw [a, Nat.mod_mod] at b
      exact c (b he)
  · rw [bd_Ps a, if_neg (by omega)]
theorem bd_Py {m hit ex i p} (hm : m < 3) (hi : hit i = true) (he : ex i = false) (j : Nat) : bd_P m hit ex (i + 1) p j = pr_0 i (upd (bd_P m hit ex i p) (i * 3 + m) 0) j := by
  rw [pr_0e]
  by_cases a : j / 3 = i
  · rw [if_pos a, bd_P1]
    rw [a]
    exact ⟨by omega, hi, fun q => absurd (he.symm.trans q) (by decide)⟩
  · rw [bd_Ps a, if_neg a]
    unfold upd
    rw [if_neg (by omega)]
theorem bd_Gn {m hit ex i g} (hi : hit i = false ∨ ex i = false) (j : Nat) : bd_G m hit ex (i + 1) g j = bd_G m hit ex i g j := by
  by_cases c : j / 3 < i ∧ hit (j / 3) = true ∧ ex (j / 3) = true ∧ j % 3 = m
  · rw [bd_G1 c, bd_G1 ⟨by omega, c.2⟩]
  · rw [bd_G0 c, bd_G0]
    rintro ⟨a, b, d, e⟩
    by_cases z : j / 3 = i
    · rw [z] at b d
      rcases hi with q | q
      · exact absurd (q.symm.trans b) (by decide)
      · exact absurd (q.symm.trans d) (by decide)
    · exact c ⟨by omega, b, d, e⟩
theorem bd_Gx {m hit ex i g} (hm : m < 3) (hi : hit i = true) (he : ex i = true) (j : Nat) : bd_G m hit ex (i + 1) g j = upd (bd_G m hit ex i g) (i * 3 + m) 1 j := by
  unfold upd
  by_cases a : j = i * 3 + m
  · rw [if_pos a, bd_G1]
    have e1 : j / 3 = i := by omega
    rw [e1]
    exact ⟨by omega, hi, he, by omega⟩
  · rw [if_neg a]
    by_cases c : j / 3 < i ∧ hit (j / 3) = true ∧ ex (j / 3) = true ∧ j % 3 = m
    · rw [bd_G1 c, bd_G1 ⟨by omega, c.2⟩]
    · rw [bd_G0 c, bd_G0]
      rintro ⟨b, d, e, f⟩
      exact c ⟨by omega, d, e, f⟩
theorem bd_K1 {hit ex : Nat → Bool} {i : Nat} (hi : hit i = true) (he : ex i = false) : (fun t => hit t && !ex t) i = true := by
  show (hit i && !ex i) = true
  rw [hi, he]; rfl
theorem bd_K0 {hit ex : Nat → Bool} {i : Nat} (h : hit i = false ∨ ex i = true) : (fun t => hit t && !ex t) i = false := by
  show (hit i && !ex i) = false
  rcases h with q | q <;> rw [q] <;> simp
section
variable {A : Nat → Bool} {N : Nat → Int32} {H : Nat → Nat} {S : Nat → Int32} {C : Nat → Bool}
variable {B : ty_B} {V : ty_V} {Q : ty_Q} {L : ty_L} {D : ty_D} {p g : Nat → Int32}
theorem xd_lp {post : Int32 → SX → Prop} {m : Nat} {y : Int32} {hit ex : Nat → Bool} (p0 g0 : Nat → Int32) (H : Nat → Nat) (hm : m < 3) (hy : ∀ i, i < 4 → bt y i = hit i)
    (hex1 : ∀ i, i < 4 → ex i = true → ¬ V.1 = 0 ∧ nI i = B.2.2.1) (hex0 : ∀ i, i < 4 → ex i = false → V.1 = 0 ∨ ¬ nI i = B.2.2.1)
    (hend : ∀ f D p g, co_re (kl_A (up_K (fun t => hit t && !ex t) 4) A) N (bd_H m hit ex 4 H) S C D → (∀ j, p j = bd_P m hit ex 4 p0 j) → (∀ j, g j = bd_G m hit ex 4 g0 j) → wX_breakDown_11 post (nI m) y (f + 1) (nI (cn_t (fun t => hit t && !ex t) 4)) (nI 4) D.1 V.1 V.2.1 V.2.2.1 B.1 B.2.1 B.2.2.1 B.2.2.2.1 B.2.2.2.2.1 B.2.2.2.2.2.1 V.2.2.2 B.2.2.2.2.2.2 Q.1 Q.2.1 Q.2.2.1 Q.2.2.2.1 L.1 L.2.1 L.2.2.1 L.2.2.2.1 L.2.2.2.2.1 L.2.2.2.2.2 D.2.1 D.2.2.1 D.2.2.2.1 D.2.2.2.2 p g Q.2.2.2.2.1 Q.2.2.2.2.2.1 Q.2.2.2.2.2.2.1 Q.2.2.2.2.2.2.2) :
    ∀ r i f D p g, i + r = 4 → r < f → co_re (kl_A (up_K (fun t => hit t && !ex t) i) A) N (bd_H m hit ex i H) S C D → (∀ j, p j = bd_P m hit ex i p0 j) → (∀ j, g j = bd_G m hit ex i g0 j) →
      wX_breakDown_11 post (nI m) y f (nI (cn_t (fun t => hit t && !ex t) i)) (nI i) D.1 V.1 V.2.1 V.2.2.1 B.1 B.2.1 B.2.2.1 B.2.2.2.1 B.2.2.2.2.1 B.2.2.2.2.2.1 V.2.2.2 B.2.2.2.2.2.2 Q.1 Q.2.1 Q.2.2.1 Q.2.2.2.1 L.1 L.2.1 L.2.2.1 L.2.2.2.1 L.2.2.2.2.1 L.2.2.2.2.2 D.2.1 D.2.2.1 D.2.2.2.1 D.2.2.2.2 p g Q.2.2.2.2.1 Q.2.2.2.2.2.1 Q.2.2.2.2.2.2.1 Q.2.2.2.2.2.2.2 := by
  intro r
  induction r with
  | zero =>
    intro i f D p g hi hf hC hP hG
    cases f with
    | zero => omega
    | succ f =>
      have : i = 4 := by omega
      subst this
      exact hend f D p g hC hP hG
  | succ r ih =>
    intro i f D p g hi hf hC hP hG
    cases f with
    | zero => omega
    | succ f =>
      refine br_f (nI_ge (b := 4) (by omega) (by decide)) (ek_if2 (zt_tst y (n := i) (by omega)) (fun z => nm_r (nI_1 i) ?_) (fun z => ?_))
      · rw [hy i (by omega)] at z
        have e : cn_t (fun t => hit t && !ex t) (i + 1) = cn_t (fun t => hit t && !ex t) i := if_neg (by rw [bd_K0 (Or.inl z)]; decide)
        have := ih (i + 1) f D p g (by omega) (by omega) (co_cong hC (fun t _ => kl_An (bd_K0 (Or.inl z)) t) (fun _ _ => rfl) (fun k _ => bd_Hn z k) (fun _ _ _ => rfl) (fun _ _ _ => rfl)) (fun j => by rw [bd_Pn z]; exact hP j) (fun j => by rw [bd_Gn (Or.inl z)]; exact hG j)
        rw [e] at this
        exact this
      · rw [hy i (by omega)] at z
        have z : hit i = true := by
          cases q : hit i
          · exact absurd q z
          · rfl
        refine xb_rel (by omega) hm hC (fun D1 h1 => ?_)
        cases he : ex i with
        | true =>
          obtain ⟨w1, w2⟩ := hex1 i (by omega) he
          refine br_f w1 (br_t w2 (And.intro (pk_in (i * 3 + m) 12 (by omega) (zi_3 i m)) (nm_r (e' := upd g (i * 3 + m) 1) (congrArg (fun j => upd g j 1) (zt_ci (zi_3 i m) (by omega))) (nm_r (nI_1 i) ?_))))
          have e : cn_t (fun t => hit t && !ex t) (i + 1) = cn_t (fun t => hit t && !ex t) i := if_neg (by rw [bd_K0 (Or.inr he)]; decide)
          have := ih (i + 1) f D1 (upd p (i * 3 + m) 0) (upd g (i * 3 + m) 1) (by omega) (by omega) (co_cong h1 (fun t _ => kl_An (bd_K0 (Or.inr he)) t) (fun _ _ => rfl) (fun k _ => bd_Hx z he k) (fun _ _ _ => rfl) (fun _ _ _ => rfl))
            (fun j => by rw [bd_Px hm z he]; unfold upd; rw [hP j]) (fun j => by rw [bd_Gx hm z he]; unfold upd; rw [hG j])
          rw [e] at this
          exact this
        | false =>
          have key : wX_breakDown_64 post (wX_breakDown_11 post (nI m) y f) (nI m) y (nI (cn_t (fun t => hit t && !ex t) i)) (nI i) D1.1 V.1 V.2.1 V.2.2.1 B.1 B.2.1 B.2.2.1 B.2.2.2.1 B.2.2.2.2.1 B.2.2.2.2.2.1 V.2.2.2 B.2.2.2.2.2.2 Q.1 Q.2.1 Q.2.2.1 Q.2.2.2.1 L.1 L.2.1 L.2.2.1 L.2.2.2.1 L.2.2.2.2.1 L.2.2.2.2.2 D1.2.1 D1.2.2.1 D1.2.2.2.1 D1.2.2.2.2 (upd p (i * 3 + m) 0) g Q.2.2.2.2.1 Q.2.2.2.2.2.1 Q.2.2.2.2.2.2.1 Q.2.2.2.2.2.2.2 := by
            refine xb_roll (by omega) h1 (fun D2 h2 => nm_r (nI_1 _) (nm_r (nI_1 i) ?_))
            have e : cn_t (fun t => hit t && !ex t) (i + 1) = cn_t (fun t => hit t && !ex t) i + 1 := if_pos (bd_K1 z he)
            have := ih (i + 1) f D2 (pr_0 i (upd p (i * 3 + m) 0)) g (by omega) (by omega) (co_cong h2 (fun t _ => kl_Ay (bd_K1 z he) t) (fun _ _ => rfl) (fun k _ => bd_Hy z he k) (fun _ _ _ => rfl) (fun _ _ _ => rfl))
              (fun j => by rw [bd_Py hm z he, pr_0e, pr_0e]; unfold upd; rw [hP j]) (fun j => by rw [bd_Gn (Or.inr he)]; exact hG j)
            rw [e] at this
            exact this
          rcases hex0 i (by omega) he with w | w
          · exact br_t w key
          · exact br_c (fun _ => key) (fun _ => br_f w key)
theorem xd_bl {post : Int32 → SX → Prop} {ex : Nat → Bool} (p0 : Nat → Int32) (H : Nat → Nat)
    (hex1 : ∀ i, i < 4 → ex i = true → ¬ V.1 = 0 ∧ nI i = B.2.2.1) (hex0 : ∀ i, i < 4 → ex i = false → V.1 = 0 ∨ ¬ nI i = B.2.2.1)
    (hend : ∀ f D p, co_re (kl_A (up_K (fun t => A t && !ex t) 4) A) N (kl_H (up_K (fun t => A t && !ex t) 4) H) S C D → (∀ j, p j = if up_K (fun t => A t && !ex t) 4 (j / 3) = true then 0 else p0 j) → wX_breakLeader_4 post (f + 1) (nI (cn_t (fun t => A t && !ex t) 4)) (nI 4) D.1 V.1 V.2.1 V.2.2.1 B.1 B.2.1 B.2.2.1 B.2.2.2.1 B.2.2.2.2.1 B.2.2.2.2.2.1 V.2.2.2 B.2.2.2.2.2.2 Q.1 Q.2.1 Q.2.2.1 Q.2.2.2.1 L.1 L.2.1 L.2.2.1 L.2.2.2.1 L.2.2.2.2.1 L.2.2.2.2.2 D.2.1 D.2.2.1 D.2.2.2.1 D.2.2.2.2 p g Q.2.2.2.2.1 Q.2.2.2.2.2.1 Q.2.2.2.2.2.2.1 Q.2.2.2.2.2.2.2) :
    ∀ r i f D p, i + r = 4 → r < f → co_re (kl_A (up_K (fun t => A t && !ex t) i) A) N (kl_H (up_K (fun t => A t && !ex t) i) H) S C D → (∀ j, p j = if up_K (fun t => A t && !ex t) i (j / 3) = true then 0 else p0 j) →
      wX_breakLeader_4 post f (nI (cn_t (fun t => A t && !ex t) i)) (nI i) D.1 V.1 V.2.1 V.2.2.1 B.1 B.2.1 B.2.2.1 B.2.2.2.1 B.2.2.2.2.1 B.2.2.2.2.2.1 V.2.2.2 B.2.2.2.2.2.2 Q.1 Q.2.1 Q.2.2.1 Q.2.2.2.1 L.1 L.2.1 L.2.2.1 L.2.2.2.1 L.2.2.2.2.1 L.2.2.2.2.2 D.2.1 D.2.2.1 D.2.2.2.1 D.2.2.2.2 p g Q.2.2.2.2.1 Q.2.2.2.2.2.1 Q.2.2.2.2.2.2.1 Q.2.2.2.2.2.2.2 := by
  intro r
  induction r with
  | zero =>
    intro i f D p hi hf hC hP
    cases f with
    | zero => omega
    | succ f =>
      have : i = 4 := by omega
      subst this
      exact hend f D p hC hP
  | succ r ih =>
    intro i f D p hi hf hC hP
    cases f with
    | zero => omega
    | succ f =>
      refine br_f (nI_ge (b := 4) (by omega) (by decide)) ?_
      have hA : kl_A (up_K (fun t => A t && !ex t) i) A i = A i := by unfold kl_A up_K; simp
      have skip : (fun t => A t && !ex t) i = false → wX_breakLeader_4 post f (nI (cn_t (fun t => A t && !ex t) i)) (nI (i + 1)) D.1 V.1 V.2.1 V.2.2.1 B.1 B.2.1 B.2.2.1 B.2.2.2.1 B.2.2.2.2.1 B.2.2.2.2.2.1 V.2.2.2 B.2.2.2.2.2.2 Q.1 Q.2.1 Q.2.2.1 Q.2.2.2.1 L.1 L.2.1 L.2.2.1 L.2.2.2.1 L.2.2.2.2.1 L.2.2.2.2.2 D.2.1 D.2.2.1 D.2.2.2.1 D.2.2.2.2 p g Q.2.2.2.2.1 Q.2.2.2.2.2.1 Q.2.2.2.2.2.2.1 Q.2.2.2.2.2.2.2 := by
        intro z
        have e : cn_t (fun t => A t && !ex t) (i + 1) = cn_t (fun t => A t && !ex t) i := if_neg (by rw [z]; decide)
        have := ih (i + 1) f D p (by omega) (by omega) (co_cong hC (fun t _ => kl_An z t) (fun _ _ => rfl) (fun k _ => kl_Hn z k) (fun _ _ _ => rfl) (fun _ _ _ => rfl)) (fun j => by
          rw [hP j]
          have q : up_K (fun t => A t && !ex t) (i + 1) (j / 3) = up_K (fun t => A t && !ex t) i (j / 3) := by
            unfold up_K
            by_cases w : j / 3 = i
            · rw [w]; have z' : (A i && !ex i) = false := z; simp [z']
            · have : (j / 3 < i + 1) = (j / 3 < i) := by apply propext; omega
              simp only [this]
          rw [q])
        rw [e] at this
        exact this
      cases hA' : A i with
      | false =>
        refine xa_open0 hC ?_ (br_t rfl (nm_r (nI_1 i) (skip ?_)))
        · rintro ⟨t, a, b, c⟩
          rw [nI_eq (by omega) (by omega)] at b
          subst b
          rw [hA, hA'] at c
          exact absurd c (by decide)
        · show (A i && !ex i) = false
          rw [hA']; rfl
      | true =>
        refine xa_open1 hC (by omega) (hA.trans hA') (br_f (by decide) ?_)
        cases he : ex i with
        | true =>
          obtain ⟨w1, w2⟩ := hex1 i (by omega) he
          refine br_f w1 (br_t w2 (nm_r (nI_1 i) (skip ?_)))
          show (A i && !ex i) = false
          rw [he]; simp
        | false =>
          have z : (fun t => A t && !ex t) i = true := by
            show (A i && !ex i) = true
            rw [hA', he]; rfl
          have key : wX_breakLeader_32 post (wX_breakLeader_4 post f) (nI (cn_t (fun t => A t && !ex t) i)) (nI i) D.1 V.1 V.2.1 V.2.2.1 B.1 B.2.1 B.2.2.1 B.2.2.2.1 B.2.2.2.2.1 B.2.2.2.2.2.1 V.2.2.2 B.2.2.2.2.2.2 Q.1 Q.2.1 Q.2.2.1 Q.2.2.2.1 L.1 L.2.1 L.2.2.1 L.2.2.2.1 L.2.2.2.2.1 L.2.2.2.2.2 D.2.1 D.2.2.1 D.2.2.2.1 D.2.2.2.2 p g Q.2.2.2.2.1 Q.2.2.2.2.2.1 Q.2.2.2.2.2.2.1 Q.2.2.2.2.2.2.2 := by
            refine xb_roll (by omega) hC (fun D2 h2 => nm_r (nI_1 _) (nm_r (nI_1 i) ?_))
            have e : cn_t (fun t => A t && !ex t) (i + 1) = cn_t (fun t => A t && !ex t) i + 1 := if_pos z
            have := ih (i + 1) f D2 (pr_0 i p) (by omega) (by omega) (co_cong h2 (fun t _ => kl_Ay z t) (fun _ _ => rfl) (fun k _ => kl_Hy z k) (fun _ _ _ => rfl) (fun _ _ _ => rfl)) (fun j => by
              rw [pr_0e, hP j]
              by_cases w : j / 3 = i
              · have z' : (A i && !ex i) = true := z
                have q : up_K (fun t => A t && !ex t) (i + 1) (j / 3) = true := by
                  unfold up_K; rw [w]; simp [z']
                rw [if_pos w, if_pos q]
              · have q : up_K (fun t => A t && !ex t) (i + 1) (j / 3) = up_K (fun t => A t && !ex t) i (j / 3) := by
                  unfold up_K
                  have : (j / 3 < i + 1) = (j / 3 < i) := by apply propext; omega
                  simp only [this]
                rw [if_neg w, q])
            rw [e] at this
            exact this
          rcases hex0 i (by omega) he with w | w
          · exact br_t w key
          · exact br_c (fun _ => key) (fun _ => br_f w key)
end
end
section
/-! ===== the control of a commit, as a machine that runs by itself ===== -/
/-- first, sent, lost, the messages under way: kind, from, to -/
abbrev ty_Z : Type := Nat × Nat × Nat × List (Nat × Nat × Nat)
/-- state votes heard happened decided event phases messages -/
abbrev ty_C : Type := Nat × Nat × Nat × Nat × Nat × Nat × (Nat → Nat) × ty_Z
def cq_put (x : Nat × Nat × Nat) : Nat → List (Nat × Nat × Nat) → List (Nat × Nat × Nat)
  | 0, q => q
  | n + 1, q => if q.length < 64 then cq_put x n (q ++ [x]) else q
def cq_send (tr kd fr to : Nat) (Z : ty_Z) : ty_Z :=
  if tr = 6 ∧ Z.2.2.1 < 10 ∧ (Z.2.1 + 1) * 7 % 5 < 3 then (Z.1, Z.2.1 + 1, Z.2.2.1 + 1, Z.2.2.2)
  else (Z.1, Z.2.1 + 1, Z.2.2.1, cq_put (kd, fr, to) (if tr = 7 then 2 else 1) Z.2.2.2)
def cq_rem1 (pa tr st vo he : Nat) (ph : Nat → Nat) (m : Nat) (Z : ty_Z) : ty_Z :=
  if pa.testBit m = false then Z
  else if st = 1 then (if vo.testBit m = true then Z else cq_send tr 1 3 m Z)
  else if st = 2 then (if he.testBit m = true then Z else cq_send tr 4 3 m Z)
  else if st = 3 then (if he.testBit m = true then Z else if ph m = 1 ∨ ph m = 2 then cq_send tr 7 m 3 Z else cq_send tr 5 3 m Z)
  else Z
def cq_rem (pa tr st vo he : Nat) (ph : Nat → Nat) (Z : ty_Z) : ty_Z := cq_rem1 pa tr st vo he ph 2 (cq_rem1 pa tr st vo he ph 1 (cq_rem1 pa tr st vo he ph 0 Z))
/-- a machine breaks down: its phase after that; the event (9: not foreseen) -/
def cs_bph (pa : Nat) (ph : Nat → Nat) (m : Nat) : Nat → Nat := zt_un ph m (if ph m = 0 then (if pa.testBit m = true then 4 else 0) else if ph m = 1 then 2 else ph m)
def cs_bev (ev : Nat) (ph : Nat → Nat) (m : Nat) : Nat := if ev = 0 ∧ (ph m = 0 ∨ ph m = 1 ∨ ph m = 3) then 1 else 9
def cs_lev (ev : Nat) : Nat := if ev = 0 then 2 else 9
def cs_aft (tr : Nat) : ty_C → ty_C
  | (st, vo, he, ha, de, ev, ph, Z) => if tr = 3 ∧ ha = 0 then (if de = 1 then 2 else 3, 0, 0, 1, de, cs_lev ev, ph, Z) else (st, vo, he, ha, de, ev, ph, Z)
def cs_asi (pa tr td : Nat) : ty_C → ty_C
  | (st, vo, he, ha, de, ev, ph, Z) => if pa.testBit td = false ∧ (tr = 4 ∨ tr = 5) ∧ ha = 0 then (st, vo, he, 1, de, cs_bev ev ph td, cs_bph pa ph td, Z) else (st, vo, he, ha, de, ev, ph, Z)
def cs_rem (pa tr : Nat) : ty_C → ty_C
  | (st, vo, he, ha, de, ev, ph, Z) => (st, vo, he, ha, de, ev, ph, cq_rem pa tr st vo he ph Z)
def cs_dec (pa tr td : Nat) : ty_C → ty_C
  | (st, vo, he, ha, de, ev, ph, Z) =>
    if vo = pa then
      (if tr = 2 ∧ ha = 0 then (if de = 1 then 2 else 3, 0, 0, 1, de, cs_lev ev, ph, Z)
      else cs_rem pa tr (cs_asi pa tr td (cs_aft tr (2, vo, he, ha, 1, ev, ph, Z))))
    else (st, vo, he, ha, de, ev, ph, Z)
def cs_led (pa tr td kd fr : Nat) : ty_C → ty_C
  | (st, vo, he, ha, de, ev, ph, Z) =>
    if kd = 2 ∧ st = 1 then cs_dec pa tr td (st, vo ||| 2 ^ fr, he, ha, de, ev, ph, Z)
    else if kd = 3 ∧ st = 1 then (3, vo, he, ha, de, ev, ph, Z)
    else if kd = 6 ∧ (st = 2 ∨ st = 3) then (st, vo, he ||| 2 ^ fr, ha, de, ev, ph, Z)
    else if kd = 7 then (st, vo, he, ha, de, ev, ph, cq_send tr (if de = 1 then 4 else 5) 3 fr Z)
    else (st, vo, he, ha, de, ev, ph, Z)
def cs_pre (pa tr td m : Nat) : ty_C → ty_C
  | (st, vo, he, ha, de, ev, ph, Z) =>
    if tr = 1 ∧ ha = 0 ∧ m = td then (st, vo, he, 1, de, cs_bev ev ph m, cs_bph pa ph m, Z)
    else if ph m = 4 then (st, vo, he, ha, de, ev, ph, cq_send tr 3 m 3 Z)
    else if ph m = 0 then (st, vo, he, ha, de, ev, zt_un ph m 1, cq_send tr 2 m 3 Z)
    else if ph m = 1 then (st, vo, he, ha, de, ev, ph, cq_send tr 2 m 3 Z)
    else (st, vo, he, ha, de, 9, ph, Z)
def cs_com2 (pa tr td m : Nat) : ty_C → ty_C
  | (st, vo, he, ha, de, ev, ph, Z) =>
    if tr = 5 ∧ ha = 0 ∧ m = td then (st, vo, he, 1, de, cs_bev ev ph m, cs_bph pa ph m, Z)
    else (st, vo, he, ha, de, ev, ph, cq_send tr 6 m 3 Z)
def cs_com (pa tr td m : Nat) : ty_C → ty_C
  | (st, vo, he, ha, de, ev, ph, Z) =>
    if tr = 4 ∧ ha = 0 ∧ m = td then (st, vo, he, 1, de, cs_bev ev ph m, cs_bph pa ph m, Z)
    else cs_com2 pa tr td m (st, vo, he, ha, de, ev, if ph m = 1 ∨ ph m = 2 then zt_un ph m 3 else ph, Z)
def cs_ref (tr m : Nat) : ty_C → ty_C
  | (st, vo, he, ha, de, ev, ph, Z) => if ph m = 3 then (st, vo, he, ha, de, 9, ph, Z) else (st, vo, he, ha, de, ev, zt_un ph m 5, cq_send tr 6 m 3 Z)
def cs_mac (pa tr td kd m : Nat) (c : ty_C) : ty_C := if kd = 1 then cs_pre pa tr td m c else if kd = 4 then cs_com pa tr td m c else cs_ref tr m c
def cs_del (pa tr td : Nat) : ty_C → ty_C
  | (st, vo, he, ha, de, ev, ph, fi, se, lo, []) => (st, vo, he, ha, de, ev, ph, fi, se, lo, [])
  | (st, vo, he, ha, de, ev, ph, fi, se, lo, (kd, fr, to) :: q) =>
    if to = 3 then cs_led pa tr td kd fr (st, vo, he, ha, de, ev, ph, (fi + 1) % 64, se, lo, q) else cs_mac pa tr td kd to (st, vo, he, ha, de, ev, ph, (fi + 1) % 64, se, lo, q)
def cs_step (pa tr td : Nat) (c : ty_C) : ty_C := if c.2.2.2.2.2.2.2.2.2.2 = [] then cs_rem pa tr c else cs_del pa tr td c
def cs_over (pa : Nat) (c : ty_C) : Bool := (decide (c.1 = 2) || decide (c.1 = 3)) && decide (c.2.2.1 = pa)
def cs_de (pa tr td : Nat) : Nat := if tr = 2 then 0 else if tr = 1 ∧ pa.testBit td = true then 0 else 1
def cs_ev (tr : Nat) : Nat := if tr = 1 ∨ tr = 4 ∨ tr = 5 then 1 else if tr = 2 ∨ tr = 3 then 2 else 0
def cs_f1 (pa de : Nat) (ph : Nat → Nat) (m : Nat) : Bool := decide (ph m ≠ 1) && (decide (ph m ≠ 2) && ((decide (de ≠ 1) || (!pa.testBit m || decide (ph m = 3))) && (decide (de = 1) || decide (ph m ≠ 3))))
def cs_fin (pa tr td : Nat) (c : ty_C) : Bool :=
  decide (c.2.2.2.2.1 = cs_de pa tr td) && (decide (c.2.2.2.2.2.1 = cs_ev tr) && (cs_f1 pa c.2.2.2.2.1 c.2.2.2.2.2.2.1 0 && (cs_f1 pa c.2.2.2.2.1 c.2.2.2.2.2.2.1 1 && cs_f1 pa c.2.2.2.2.1 c.2.2.2.2.2.2.1 2)))
def cs_run (pa tr td : Nat) : Nat → ty_C → Bool
  | 0, _ => false
  | n + 1, c => if cs_over pa c = true then cs_fin pa tr td c else
    if c.2.2.2.2.2.2.2.2.1 < 1000 ∧ (cs_step pa tr td c).2.2.2.2.2.1 < 9 then cs_run pa tr td n (cs_step pa tr td c) else false
def cs_0 : ty_C := (1, 0, 0, 0, 0, 0, fun _ => 0, 0, 0, 0, [])
def cs_1 (pa tr td : Nat) : ty_C := if pa.testBit td = false ∧ tr = 1 then (1, 0, 0, 1, 0, cs_bev 0 (fun _ => 0) td, cs_bph pa (fun _ => 0) td, 0, 0, 0, []) else cs_0
def cs_all (pa tr td : Nat) : Bool := decide ((cs_1 pa tr td).2.2.2.2.2.1 < 9) && (decide ((cs_dec pa tr td (cs_1 pa tr td)).2.2.2.2.2.1 < 9) && cs_run pa tr td 100 (cs_dec pa tr td (cs_1 pa tr td)))
theorem cs_ok : ∀ pa, pa < 8 → ∀ tr, tr < 8 → ∀ td, td < 3 → cs_all pa tr td = true := by decide +kernel
end
section
/-! ===== messages ===== -/
abbrev bb_X (nm t pa tr td : Nat) (cc : Int32) : ty_B := (nI nm, nI nm, nI t, nI pa, nI tr, nI td, cc)
abbrev vv_X (st vo he ha : Nat) : ty_V := (nI st, nI vo, nI he, nI ha)
theorem zm_t : ∀ pa, pa < 8 → ∀ m, m < 3 → (((nI pa >>> (nI m &&& 31)) &&& 1) = 0 ↔ pa.testBit m = false) := by decide +kernel
theorem zm_o : ∀ vo, vo < 8 → ∀ m, m < 3 → nI vo ||| ((1 : Int32) <<< (nI m &&& 31)) = nI (vo ||| 2 ^ m) ∧ vo ||| 2 ^ m < 8 := by decide +kernel
def qr_e (nm : Nat) (Q : ty_Q) (i : Nat) (x : Nat × Nat × Nat) : Prop :=
  Q.2.2.2.2.1 i = nI x.1 ∧ Q.2.2.2.2.2.1 i = nI x.2.1 ∧ Q.2.2.2.2.2.2.1 i = nI x.2.2 ∧ Q.2.2.2.2.2.2.2 i = nI nm ∧ x.1 < 8 ∧ x.2.1 < 4 ∧ x.2.2 < 4 ∧ (x.2.2 = 3 → x.2.1 < 3)
def qr_1 (nm : Nat) (Z : ty_Z) (Q : ty_Q) : Prop :=
  Q.1 = nI Z.1 ∧ Z.1 < 64 ∧ Q.2.1 = nI Z.2.2.2.length ∧ Z.2.2.2.length ≤ 64 ∧ Q.2.2.1 = nI Z.2.1 ∧ Q.2.2.2.1 = nI Z.2.2.1 ∧ Z.2.2.1 ≤ 10 ∧
  (∀ j x, Z.2.2.2[j]? = some x → qr_e nm Q ((Z.1 + j) % 64) x)
section
variable {B : ty_B} {V : ty_V} {Q : ty_Q} {L : ty_L} {D : ty_D} {p g : Nat → Int32}
variable {nm t pa tr td : Nat} {cc : Int32} {st vo he ha : Nat}
theorem xq_lp {post : SX → Prop} {fi se lo tm : Nat} {kd fr to : Nat} (hk : kd < 8) (hf : fr < 4) (hto : to < 4) (hft : to = 3 → fr < 3) (htm : tm < 3) :
    ∀ r i f q (Q : ty_Q), i + r = tm → r < f → qr_1 nm (fi, se, lo, q) Q → (∀ Q', qr_1 nm (fi, se, lo, cq_put (kd, fr, to) r q) Q' → post (mk_X (bb_X nm t pa tr td cc) V Q' L D p g)) →
      wX_send_95 post (nI kd) (nI fr) (nI to) (nI tm) D.1 V.1 V.2.1 V.2.2.1 (bb_X nm t pa tr td cc).1 (bb_X nm t pa tr td cc).2.1 (bb_X nm t pa tr td cc).2.2.1 (bb_X nm t pa tr td cc).2.2.2.1 (bb_X nm t pa tr td cc).2.2.2.2.1 (bb_X nm t pa tr td cc).2.2.2.2.2.1 V.2.2.2 (bb_X nm t pa tr td cc).2.2.2.2.2.2 Q.1 Q.2.2.1 Q.2.2.2.1 f (nI i) Q.2.1 L.1 L.2.1 L.2.2.1 L.2.2.2.1 L.2.2.2.2.1 L.2.2.2.2.2 D.2.1 D.2.2.1 D.2.2.2.1 D.2.2.2.2 p g Q.2.2.2.2.1 Q.2.2.2.2.2.1 Q.2.2.2.2.2.2.1 Q.2.2.2.2.2.2.2 := by
  intro r
  induction r with
  | zero =>
    intro i f q Q hi hfu hQ hp
    cases f with
    | zero => omega
    | succ f => exact br_t (nI_le (by omega) (by omega)) (hp Q hQ)
  | succ r ih =>
    intro i f q Q hi hfu hQ hp
    cases f with
    | zero => omega
    | succ f =>
      obtain ⟨q1, q2, q3, q4, q5, q6, q7, q8⟩ := hQ
      dsimp only at q1 q2 q3 q4 q5 q6 q7 q8
      refine br_f (nI_ge (by omega) (by omega)) ?_
      refine pk_le (x := (64 : Int32)) (y := Q.2.1) 64 q.length (fun z => hp Q ?_) (fun z => ?_) rfl q3
      · have : cq_put (kd, fr, to) (r + 1) q = q := if_neg (by omega)
        rw [this]
        exact ⟨q1, q2, q3, q4, q5, q6, q7, q8⟩
      · have e7 : (Q.1 + Q.2.1) - (Q.1 + Q.2.1) / 64 * 64 = nI ((fi + q.length) % 64) := by
          rw [q1, q3, nI_add, show (64 : Int32) = nI 64 from rfl, pk_rem (by omega) (by decide) (by decide)]
        have hl : (fi + q.length) % 64 < 64 := by omega
        have hv : vp_in (nI ((fi + q.length) % 64)) 64 := vp_in_nI hl (by decide)
        have hc : (nI ((fi + q.length) % 64)).toNatClampNeg = (fi + q.length) % 64 := zt_cl (by omega)
        refine And.intro (by decide) (nm_r e7 ?_)
        refine And.intro hv (nm_r (e' := upd Q.2.2.2.2.1 ((fi + q.length) % 64) (nI kd)) (by rw [hc, zt_by kd (by omega)]) ?_)
        refine And.intro hv (nm_r (e' := upd Q.2.2.2.2.2.1 ((fi + q.length) % 64) (nI fr)) (by rw [hc, zt_by fr (by omega)]) ?_)
        refine And.intro hv (nm_r (e' := upd Q.2.2.2.2.2.2.1 ((fi + q.length) % 64) (nI to)) (by rw [hc, zt_by to (by omega)]) ?_)
        refine And.intro hv (nm_r (e' := upd Q.2.2.2.2.2.2.2 ((fi + q.length) % 64) (nI nm)) (by rw [hc]) ?_)
        refine nm_r (e' := nI (q.length + 1)) (by rw [q3, nI_1]) (nm_r (nI_1 i) ?_)
        refine ih (i + 1) f (q ++ [(kd, fr, to)]) (Q.1, nI (q.length + 1), Q.2.2.1, Q.2.2.2.1, upd Q.2.2.2.2.1 ((fi + q.length) % 64) (nI kd), upd Q.2.2.2.2.2.1 ((fi + q.length) % 64) (nI fr), upd Q.2.2.2.2.2.2.1 ((fi + q.length) % 64) (nI to), upd Q.2.2.2.2.2.2.2 ((fi + q.length) % 64) (nI nm)) (by omega) (by omega) ?_ ?_
        · have el : (q ++ [(kd, fr, to)]).length = q.length + 1 := by simp
          refine ⟨q1, q2, by rw [el], by rw [el]; omega, q5, q6, q7, fun j x hx => ?_⟩
          dsimp only at hx ⊢
          rw [List.getElem?_append] at hx
          by_cases c : j < q.length
          · rw [if_pos c] at hx
            have ne : (fi + j) % 64 ≠ (fi + q.length) % 64 := by omega
            obtain ⟨a1, a2, a3, a4, a5⟩ := q8 j x hx
            exact ⟨(if_neg ne).trans a1, (if_neg ne).trans a2, (if_neg ne).trans a3, (if_neg ne).trans a4, a5⟩
          · rw [if_neg c] at hx
            have cj : j - q.length = 0 := by
              rcases Nat.eq_zero_or_pos (j - q.length) with w | w
              · exact w
              · rw [List.getElem?_eq_none (by simp; omega)] at hx
                exact absurd hx (by simp)
            rw [cj] at hx
            have ex : (kd, fr, to) = x := Option.some.inj hx
            have ej : j = q.length := by omega
            subst ex ej
            exact ⟨if_pos rfl, if_pos rfl, if_pos rfl, if_pos rfl, hk, hf, hto, hft⟩
        · intro Q' hQ'
          refine hp Q' ?_
          have : cq_put (kd, fr, to) (r + 1) q = cq_put (kd, fr, to) r (q ++ [(kd, fr, to)]) := if_pos z
          rw [this]
          exact hQ'
theorem xq_send {post : SX → Prop} {Z : ty_Z} (hQ : qr_1 nm Z Q) (htr : tr < 8) (hse : Z.2.1 < 100000) {kd fr to : Nat} (hk : kd < 8) (hf : fr < 4) (hto : to < 4) (hft : to = 3 → fr < 3)
    (h : ∀ Q', qr_1 nm (cq_send tr kd fr to Z) Q' → post (mk_X (bb_X nm t pa tr td cc) V Q' L D p g)) : wpX_send post (mk_X (bb_X nm t pa tr td cc) V Q L D p g) (nI kd) (nI fr) (nI to) := by
  obtain ⟨fi, se, lo, q⟩ := Z
  obtain ⟨q1, q2, q3, q4, q5, q6, q7, q8⟩ := hQ
  dsimp only at q1 q2 q3 q4 q5 q6 q7 q8 hse
  have no : ¬ (tr = 6 ∧ lo < 10 ∧ (se + 1) * 7 % 5 < 3) → wX_send_45 post (nI kd) (nI fr) (nI to) D.1 V.1 V.2.1 V.2.2.1 (bb_X nm t pa tr td cc).1 (bb_X nm t pa tr td cc).2.1 (bb_X nm t pa tr td cc).2.2.1 (bb_X nm t pa tr td cc).2.2.2.1 (bb_X nm t pa tr td cc).2.2.2.2.1 (bb_X nm t pa tr td cc).2.2.2.2.2.1 V.2.2.2 (bb_X nm t pa tr td cc).2.2.2.2.2.2 Q.1 Q.2.1 (nI (se + 1)) Q.2.2.2.1 L.1 L.2.1 L.2.2.1 L.2.2.2.1 L.2.2.2.2.1 L.2.2.2.2.2 D.2.1 D.2.2.1 D.2.2.2.1 D.2.2.2.2 p g Q.2.2.2.2.1 Q.2.2.2.2.2.1 Q.2.2.2.2.2.2.1 Q.2.2.2.2.2.2.2 := by
    intro c
    have ec : cq_send tr kd fr to (fi, se, lo, q) = (fi, se + 1, lo, cq_put (kd, fr, to) (if tr = 7 then 2 else 1) q) := if_neg c
    rw [ec] at h
    refine br_t rfl (nm_r (e' := Q.2.2.2.1) (by rw [Int32.add_zero]) (br_t rfl ?_))
    refine pk_eq (x := nI tr) (y := 7) tr 7 (fun z => ?_) (fun z => ?_) rfl rfl
    · rw [if_pos z] at h
      exact Exists.intro 3 (xq_lp hk hf hto hft (by decide) 2 0 3 q (Q.1, Q.2.1, nI (se + 1), Q.2.2.2) (by decide) (by decide) ⟨q1, q2, q3, q4, rfl, q6, q7, q8⟩ h)
    · rw [if_neg z] at h
      exact Exists.intro 3 (xq_lp hk hf hto hft (by decide) 1 0 3 q (Q.1, Q.2.1, nI (se + 1), Q.2.2.2) (by decide) (by decide) ⟨q1, q2, q3, q4, rfl, q6, q7, q8⟩ h)
  refine nm_r (e' := nI (se + 1)) (by show Q.2.2.1 + 1 = _; rw [q5, nI_1]) ?_
  refine pk_eq (x := nI tr) (y := 6) tr 6 (fun z => ?_) (fun z => no (fun c => z c.1)) rfl rfl
  refine pk_le (x := (10 : Int32)) (y := Q.2.2.2.1) 10 lo (fun y => no (fun c => by omega)) (fun y => And.intro (by decide) ?_) rfl q6
  have er : (nI (se + 1) * 7) - (nI (se + 1) * 7) / 5 * 5 = nI ((se + 1) * 7 % 5) := by
    rw [show (7 : Int32) = nI 7 from rfl, show (5 : Int32) = nI 5 from rfl, pk_mul, pk_rem (by omega) (by decide) (by decide)]
  refine pk_le (x := (3 : Int32)) 3 ((se + 1) * 7 % 5) (fun x => no (fun c => by omega)) (fun x => ?_) rfl er (by decide) (by omega)
  have ec : cq_send tr kd fr to (fi, se, lo, q) = (fi, se + 1, lo + 1, q) := if_pos ⟨z, y, x⟩
  rw [ec] at h
  refine br_f (by decide) (nm_r (e' := nI (lo + 1)) (by show Q.2.2.2.1 + 1 = _; rw [q6, nI_1]) (br_f (by decide) ?_))
  refine Exists.intro 1 (xq_lp (tm := 0) hk hf hto hft (by decide) 0 0 1 q (Q.1, Q.2.1, nI (se + 1), nI (lo + 1), Q.2.2.2.2) (by decide) (by decide) ⟨q1, q2, q3, q4, rfl, rfl, by dsimp only; omega, q8⟩ (fun Q' hQ' => h Q' ?_))
  exact hQ'
theorem cq_se (tr kd fr to : Nat) (Z : ty_Z) : (cq_send tr kd fr to Z).2.1 = Z.2.1 + 1 := by
  unfold cq_send
  split <;> rfl
theorem cq_se1 (pa tr st vo he : Nat) (ph : Nat → Nat) (m : Nat) (Z : ty_Z) : (cq_rem1 pa tr st vo he ph m Z).2.1 ≤ Z.2.1 + 1 := by
  unfold cq_rem1
  repeat' split
  all_goals (first | (rw [cq_se]; omega) | omega)
theorem xq_part1 {post : Int32 → Prop} {m : Nat} (hpa : pa < 8) (hm : m < 3) (hb : pa.testBit m = true) (h : post 1) : wpX_isPart post (mk_X (bb_X nm t pa tr td cc) V Q L D p g) (nI m) :=
  br_f (fun z => absurd (((zm_t pa hpa m hm).mp z).symm.trans hb) (by decide)) h
theorem xq_part0 {post : Int32 → Prop} {m : Nat} (hpa : pa < 8) (hm : m < 3) (hb : pa.testBit m = false) (h : post 0) : wpX_isPart post (mk_X (bb_X nm t pa tr td cc) V Q L D p g) (nI m) :=
  br_t ((zm_t pa hpa m hm).mpr hb) h
theorem xq_str {post : Int32 → SX → Prop} {w m : Nat} (hw : w < 8) (hm : m < 3) (htr : tr < 8) (htd : td < 3) (hha : ha < 2)
    (h1 : tr = w → ha = 0 → m = td → post 1 (mk_X (bb_X nm t pa tr td cc) (vv_X st vo he 1) Q L D p g))
    (h0 : ¬ (tr = w ∧ ha = 0 ∧ m = td) → post 0 (mk_X (bb_X nm t pa tr td cc) (vv_X st vo he ha) Q L D p g)) : wpX_strikes post (mk_X (bb_X nm t pa tr td cc) (vv_X st vo he ha) Q L D p g) (nI w) (nI m) := by
  have no : ¬ (tr = w ∧ ha = 0 ∧ m = td) → wX_strikes_27 post D.1 (vv_X st vo he ha).1 (vv_X st vo he ha).2.1 (vv_X st vo he ha).2.2.1 (bb_X nm t pa tr td cc).1 (bb_X nm t pa tr td cc).2.1 (bb_X nm t pa tr td cc).2.2.1 (bb_X nm t pa tr td cc).2.2.2.1 (bb_X nm t pa tr td cc).2.2.2.2.1 (bb_X nm t pa tr td cc).2.2.2.2.2.1 (vv_X st vo he ha).2.2.2 (bb_X nm t pa tr td cc).2.2.2.2.2.2 Q.1 Q.2.1 Q.2.2.1 Q.2.2.2.1 L.1 L.2.1 L.2.2.1 L.2.2.2.1 L.2.2.2.2.1 L.2.2.2.2.2 D.2.1 D.2.2.1 D.2.2.2.1 D.2.2.2.2 p g Q.2.2.2.2.1 Q.2.2.2.2.2.1 Q.2.2.2.2.2.2.1 Q.2.2.2.2.2.2.2 := by
    intro c
    have := h0 c
    have hh : ha = 0 ∨ ha = 1 := by omega
    rcases hh with e | e
    · subst e
      exact br_t rfl (br_t rfl (And.intro rfl this))
    · subst e
      exact br_f (nI_ne0 (n := 1) (by decide) (by decide)) (And.intro rfl this)
  refine pk_eq (x := nI tr) (y := nI w) tr w (fun z => ?_) (fun z => no (fun c => z c.1)) rfl rfl
  refine pk_eq (x := nI ha) (y := 0) ha 0 (fun y => ?_) (fun y => no (fun c => y c.2.1)) rfl rfl
  refine pk_eq (x := nI m) (y := nI td) m td (fun x => ?_) (fun x => no (fun c => x c.2.2)) rfl rfl
  have := h1 z y x
  subst y
  exact br_t rfl (br_f (by decide) (And.intro rfl this))
end
end
section
/-! ===== reminding ===== -/
abbrev ty_J : Type := Int32 → Int32 → Int32 → Int32 → Int32 → Int32 → Int32 → Int32 → Int32 → Int32 → Int32 → Int32 → Int32 → Int32 → Int32 → Int32 → Int32 → (Nat → Int32) → (Nat → Int32) → (Nat → Int32) → (Nat → Int32) → (Nat → Int32) → (Nat → Int32) → (Nat → Int32) → (Nat → Int32) → (Nat → Int32) → (Nat → Int32) → (Nat → Int32) → (Nat → Int32) → (Nat → Int32) → (Nat → Int32) → (Nat → Int32) → (Nat → Int32) → Prop
section
variable {B : ty_B} {V : ty_V} {Q : ty_Q} {L : ty_L} {D : ty_D} {p g : Nat → Int32}
variable {nm t pa tr td : Nat} {cc : Int32} {st vo he ha : Nat}
theorem xr_ask {post : SX → Prop} {Z : ty_Z} {ph : Nat → Nat} {m : Nat} (hQ : qr_1 nm Z Q) (htr : tr < 8) (hse : Z.2.1 < 100000) (ht : t < 4) (hm : m < 3) (hnm : 0 < nm) (hnm2 : nm < 10000) (hP : p (t * 3 + m) = if ph m = 1 ∨ ph m = 2 then nI nm else 0)
    (h : ∀ Q', qr_1 nm (if ph m = 1 ∨ ph m = 2 then cq_send tr 7 m 3 Z else cq_send tr 5 3 m Z) Q' → post (mk_X (bb_X nm t pa tr td cc) V Q' L D p g)) : wpX_askOrRefuse post (mk_X (bb_X nm t pa tr td cc) V Q L D p g) (nI m) := by
  have e : p (nI t * 3 + nI m).toNatClampNeg = if ph m = 1 ∨ ph m = 2 then nI nm else 0 := by rw [zi_3, zt_cl (by omega)]; exact hP
  refine And.intro (pk_in (t * 3 + m) 12 (by omega) (zi_3 t m)) ?_
  by_cases c : ph m = 1 ∨ ph m = 2
  · rw [if_pos c] at h e
    exact br_t e (xq_send (kd := 7) (fr := m) (to := 3) hQ htr hse (by decide) (by omega) (by decide) (fun _ => hm) h)
  · rw [if_neg c] at h e
    exact br_f (fun z => absurd (e.symm.trans z).symm (nI_ne0 hnm (by omega))) (xq_send (kd := 5) (fr := 3) (to := m) hQ htr hse (by decide) (by decide) (by omega) (fun z => by omega) h)
theorem xr_95s {post : SX → Prop} {J : ty_J} {m : Nat} {to : Int32} (hpa : pa < 8) (hm : m < 3) (hst : st < 4) (hs : pa.testBit m = false ∨ st ≠ 3 ∨ to ≠ 0)
    (h : J (nI (m + 1)) D.1 (vv_X st vo he ha).1 (vv_X st vo he ha).2.1 (vv_X st vo he ha).2.2.1 (bb_X nm t pa tr td cc).1 (bb_X nm t pa tr td cc).2.1 (bb_X nm t pa tr td cc).2.2.1 (bb_X nm t pa tr td cc).2.2.2.1 (bb_X nm t pa tr td cc).2.2.2.2.1 (bb_X nm t pa tr td cc).2.2.2.2.2.1 (vv_X st vo he ha).2.2.2 (bb_X nm t pa tr td cc).2.2.2.2.2.2 Q.1 Q.2.1 Q.2.2.1 Q.2.2.2.1 L.1 L.2.1 L.2.2.1 L.2.2.2.1 L.2.2.2.2.1 L.2.2.2.2.2 D.2.1 D.2.2.1 D.2.2.2.1 D.2.2.2.2 p g Q.2.2.2.2.1 Q.2.2.2.2.2.1 Q.2.2.2.2.2.2.1 Q.2.2.2.2.2.2.2) : wX_remind_95 post J (nI m) to D.1 (vv_X st vo he ha).1 (vv_X st vo he ha).2.1 (vv_X st vo he ha).2.2.1 (bb_X nm t pa tr td cc).1 (bb_X nm t pa tr td cc).2.1 (bb_X nm t pa tr td cc).2.2.1 (bb_X nm t pa tr td cc).2.2.2.1 (bb_X nm t pa tr td cc).2.2.2.2.1 (bb_X nm t pa tr td cc).2.2.2.2.2.1 (vv_X st vo he ha).2.2.2 (bb_X nm t pa tr td cc).2.2.2.2.2.2 Q.1 Q.2.1 Q.2.2.1 Q.2.2.2.1 L.1 L.2.1 L.2.2.1 L.2.2.2.1 L.2.2.2.2.1 L.2.2.2.2.2 D.2.1 D.2.2.1 D.2.2.2.1 D.2.2.2.2 p g Q.2.2.2.2.1 Q.2.2.2.2.2.1 Q.2.2.2.2.2.2.1 Q.2.2.2.2.2.2.2 := by
  unfold wX_remind_95
  cases hb : pa.testBit m with
  | false => exact xq_part0 (V := vv_X st vo he ha) hpa hm hb (br_t rfl (nm_r (nI_1 m) h))
  | true =>
    refine xq_part1 (V := vv_X st vo he ha) hpa hm hb (br_f (by decide) ?_)
    refine pk_eq (x := nI st) (y := 3) st 3 (fun z => br_f ?_ (nm_r (nI_1 m) h)) (fun z => nm_r (nI_1 m) h) rfl rfl
    rcases hs with q | q | q
    · exact absurd (hb.symm.trans q) (by decide)
    · exact absurd z q
    · exact q
theorem xr_95d {post : SX → Prop} {J : ty_J} {Z : ty_Z} {ph : Nat → Nat} {m : Nat} (hQ : qr_1 nm Z Q) (htr : tr < 8) (hse : Z.2.1 < 100000) (ht : t < 4) (hnm : 0 < nm) (hnm2 : nm < 10000) (hP : p (t * 3 + m) = if ph m = 1 ∨ ph m = 2 then nI nm else 0) (hpa : pa < 8) (hm : m < 3) (hb : pa.testBit m = true)
    (h : ∀ Q', qr_1 nm (if ph m = 1 ∨ ph m = 2 then cq_send tr 7 m 3 Z else cq_send tr 5 3 m Z) Q' → J (nI (m + 1)) D.1 (vv_X 3 vo he ha).1 (vv_X 3 vo he ha).2.1 (vv_X 3 vo he ha).2.2.1 (bb_X nm t pa tr td cc).1 (bb_X nm t pa tr td cc).2.1 (bb_X nm t pa tr td cc).2.2.1 (bb_X nm t pa tr td cc).2.2.2.1 (bb_X nm t pa tr td cc).2.2.2.2.1 (bb_X nm t pa tr td cc).2.2.2.2.2.1 (vv_X 3 vo he ha).2.2.2 (bb_X nm t pa tr td cc).2.2.2.2.2.2 Q'.1 Q'.2.1 Q'.2.2.1 Q'.2.2.2.1 L.1 L.2.1 L.2.2.1 L.2.2.2.1 L.2.2.2.2.1 L.2.2.2.2.2 D.2.1 D.2.2.1 D.2.2.2.1 D.2.2.2.2 p g Q'.2.2.2.2.1 Q'.2.2.2.2.2.1 Q'.2.2.2.2.2.2.1 Q'.2.2.2.2.2.2.2) : wX_remind_95 post J (nI m) 0 D.1 (vv_X 3 vo he ha).1 (vv_X 3 vo he ha).2.1 (vv_X 3 vo he ha).2.2.1 (bb_X nm t pa tr td cc).1 (bb_X nm t pa tr td cc).2.1 (bb_X nm t pa tr td cc).2.2.1 (bb_X nm t pa tr td cc).2.2.2.1 (bb_X nm t pa tr td cc).2.2.2.2.1 (bb_X nm t pa tr td cc).2.2.2.2.2.1 (vv_X 3 vo he ha).2.2.2 (bb_X nm t pa tr td cc).2.2.2.2.2.2 Q.1 Q.2.1 Q.2.2.1 Q.2.2.2.1 L.1 L.2.1 L.2.2.1 L.2.2.2.1 L.2.2.2.2.1 L.2.2.2.2.2 D.2.1 D.2.2.1 D.2.2.2.1 D.2.2.2.2 p g Q.2.2.2.2.1 Q.2.2.2.2.2.1 Q.2.2.2.2.2.2.1 Q.2.2.2.2.2.2.2 := by
  unfold wX_remind_95
  refine xq_part1 (V := vv_X 3 vo he ha) hpa hm hb (br_f (by decide) (br_t rfl (br_t rfl ?_)))
  exact xr_ask (V := vv_X 3 vo he ha) hQ htr hse ht hm hnm hnm2 hP (fun Q' hQ' => nm_r (nI_1 m) (h Q' hQ'))
theorem xr_68s {post : SX → Prop} {J : ty_J} {m : Nat} {to : Int32} (hpa : pa < 8) (hm : m < 3) (hst : st < 4) (hs : pa.testBit m = false ∨ st ≠ 2 ∨ to ≠ 0)
    (h : wX_remind_95 post J (nI m) to D.1 (vv_X st vo he ha).1 (vv_X st vo he ha).2.1 (vv_X st vo he ha).2.2.1 (bb_X nm t pa tr td cc).1 (bb_X nm t pa tr td cc).2.1 (bb_X nm t pa tr td cc).2.2.1 (bb_X nm t pa tr td cc).2.2.2.1 (bb_X nm t pa tr td cc).2.2.2.2.1 (bb_X nm t pa tr td cc).2.2.2.2.2.1 (vv_X st vo he ha).2.2.2 (bb_X nm t pa tr td cc).2.2.2.2.2.2 Q.1 Q.2.1 Q.2.2.1 Q.2.2.2.1 L.1 L.2.1 L.2.2.1 L.2.2.2.1 L.2.2.2.2.1 L.2.2.2.2.2 D.2.1 D.2.2.1 D.2.2.2.1 D.2.2.2.2 p g Q.2.2.2.2.1 Q.2.2.2.2.2.1 Q.2.2.2.2.2.2.1 Q.2.2.2.2.2.2.2) : wX_remind_68 post J (nI m) to D.1 (vv_X st vo he ha).1 (vv_X st vo he ha).2.1 (vv_X st vo he ha).2.2.1 (bb_X nm t pa tr td cc).1 (bb_X nm t pa tr td cc).2.1 (bb_X nm t pa tr td cc).2.2.1 (bb_X nm t pa tr td cc).2.2.2.1 (bb_X nm t pa tr td cc).2.2.2.2.1 (bb_X nm t pa tr td cc).2.2.2.2.2.1 (vv_X st vo he ha).2.2.2 (bb_X nm t pa tr td cc).2.2.2.2.2.2 Q.1 Q.2.1 Q.2.2.1 Q.2.2.2.1 L.1 L.2.1 L.2.2.1 L.2.2.2.1 L.2.2.2.2.1 L.2.2.2.2.2 D.2.1 D.2.2.1 D.2.2.2.1 D.2.2.2.2 p g Q.2.2.2.2.1 Q.2.2.2.2.2.1 Q.2.2.2.2.2.2.1 Q.2.2.2.2.2.2.2 := by
  unfold wX_remind_68
  cases hb : pa.testBit m with
  | false => exact xq_part0 (V := vv_X st vo he ha) hpa hm hb (br_t rfl h)
  | true =>
    refine xq_part1 (V := vv_X st vo he ha) hpa hm hb (br_f (by decide) ?_)
    refine pk_eq (x := nI st) (y := 2) st 2 (fun z => br_f ?_ h) (fun z => h) rfl rfl
    rcases hs with q | q | q
    · exact absurd (hb.symm.trans q) (by decide)
    · exact absurd z q
    · exact q
theorem xr_68d {post : SX → Prop} {J : ty_J} {Z : ty_Z} {m : Nat} (hQ : qr_1 nm Z Q) (htr : tr < 8) (hse : Z.2.1 < 100000) (hpa : pa < 8) (hm : m < 3) (hb : pa.testBit m = true)
    (h : ∀ Q', qr_1 nm (cq_send tr 4 3 m Z) Q' → wX_remind_95 post J (nI m) 0 D.1 (vv_X 2 vo he ha).1 (vv_X 2 vo he ha).2.1 (vv_X 2 vo he ha).2.2.1 (bb_X nm t pa tr td cc).1 (bb_X nm t pa tr td cc).2.1 (bb_X nm t pa tr td cc).2.2.1 (bb_X nm t pa tr td cc).2.2.2.1 (bb_X nm t pa tr td cc).2.2.2.2.1 (bb_X nm t pa tr td cc).2.2.2.2.2.1 (vv_X 2 vo he ha).2.2.2 (bb_X nm t pa tr td cc).2.2.2.2.2.2 Q'.1 Q'.2.1 Q'.2.2.1 Q'.2.2.2.1 L.1 L.2.1 L.2.2.1 L.2.2.2.1 L.2.2.2.2.1 L.2.2.2.2.2 D.2.1 D.2.2.1 D.2.2.2.1 D.2.2.2.2 p g Q'.2.2.2.2.1 Q'.2.2.2.2.2.1 Q'.2.2.2.2.2.2.1 Q'.2.2.2.2.2.2.2) : wX_remind_68 post J (nI m) 0 D.1 (vv_X 2 vo he ha).1 (vv_X 2 vo he ha).2.1 (vv_X 2 vo he ha).2.2.1 (bb_X nm t pa tr td cc).1 (bb_X nm t pa tr td cc).2.1 (bb_X nm t pa tr td cc).2.2.1 (bb_X nm t pa tr td cc).2.2.2.1 (bb_X nm t pa tr td cc).2.2.2.2.1 (bb_X nm t pa tr td cc).2.2.2.2.2.1 (vv_X 2 vo he ha).2.2.2 (bb_X nm t pa tr td cc).2.2.2.2.2.2 Q.1 Q.2.1 Q.2.2.1 Q.2.2.2.1 L.1 L.2.1 L.2.2.1 L.2.2.2.1 L.2.2.2.2.1 L.2.2.2.2.2 D.2.1 D.2.2.1 D.2.2.2.1 D.2.2.2.2 p g Q.2.2.2.2.1 Q.2.2.2.2.2.1 Q.2.2.2.2.2.2.1 Q.2.2.2.2.2.2.2 := by
  unfold wX_remind_68
  refine xq_part1 (V := vv_X 2 vo he ha) hpa hm hb (br_f (by decide) (br_t rfl (br_t rfl ?_)))
  exact xq_send (V := vv_X 2 vo he ha) (kd := 4) (fr := 3) (to := m) hQ htr hse (by decide) (by decide) (by omega) (fun z => by omega) h
theorem xr_40s {post : SX → Prop} {J : ty_J} {m : Nat} {vd to : Int32} (hpa : pa < 8) (hm : m < 3) (hst : st < 4) (hs : pa.testBit m = false ∨ st ≠ 1 ∨ vd ≠ 0)
    (h : wX_remind_68 post J (nI m) to D.1 (vv_X st vo he ha).1 (vv_X st vo he ha).2.1 (vv_X st vo he ha).2.2.1 (bb_X nm t pa tr td cc).1 (bb_X nm t pa tr td cc).2.1 (bb_X nm t pa tr td cc).2.2.1 (bb_X nm t pa tr td cc).2.2.2.1 (bb_X nm t pa tr td cc).2.2.2.2.1 (bb_X nm t pa tr td cc).2.2.2.2.2.1 (vv_X st vo he ha).2.2.2 (bb_X nm t pa tr td cc).2.2.2.2.2.2 Q.1 Q.2.1 Q.2.2.1 Q.2.2.2.1 L.1 L.2.1 L.2.2.1 L.2.2.2.1 L.2.2.2.2.1 L.2.2.2.2.2 D.2.1 D.2.2.1 D.2.2.2.1 D.2.2.2.2 p g Q.2.2.2.2.1 Q.2.2.2.2.2.1 Q.2.2.2.2.2.2.1 Q.2.2.2.2.2.2.2) : wX_remind_40 post J (nI m) vd to D.1 (vv_X st vo he ha).1 (vv_X st vo he ha).2.1 (vv_X st vo he ha).2.2.1 (bb_X nm t pa tr td cc).1 (bb_X nm t pa tr td cc).2.1 (bb_X nm t pa tr td cc).2.2.1 (bb_X nm t pa tr td cc).2.2.2.1 (bb_X nm t pa tr td cc).2.2.2.2.1 (bb_X nm t pa tr td cc).2.2.2.2.2.1 (vv_X st vo he ha).2.2.2 (bb_X nm t pa tr td cc).2.2.2.2.2.2 Q.1 Q.2.1 Q.2.2.1 Q.2.2.2.1 L.1 L.2.1 L.2.2.1 L.2.2.2.1 L.2.2.2.2.1 L.2.2.2.2.2 D.2.1 D.2.2.1 D.2.2.2.1 D.2.2.2.2 p g Q.2.2.2.2.1 Q.2.2.2.2.2.1 Q.2.2.2.2.2.2.1 Q.2.2.2.2.2.2.2 := by
  unfold wX_remind_40
  cases hb : pa.testBit m with
  | false => exact xq_part0 (V := vv_X st vo he ha) hpa hm hb (br_t rfl h)
  | true =>
    refine xq_part1 (V := vv_X st vo he ha) hpa hm hb (br_f (by decide) ?_)
    refine pk_eq (x := nI st) (y := 1) st 1 (fun z => br_f ?_ h) (fun z => h) rfl rfl
    rcases hs with q | q | q
    · exact absurd (hb.symm.trans q) (by decide)
    · exact absurd z q
    · exact q
theorem xr_40d {post : SX → Prop} {J : ty_J} {Z : ty_Z} {m : Nat} {to : Int32} (hQ : qr_1 nm Z Q) (htr : tr < 8) (hse : Z.2.1 < 100000) (hpa : pa < 8) (hm : m < 3) (hb : pa.testBit m = true)
    (h : ∀ Q', qr_1 nm (cq_send tr 1 3 m Z) Q' → wX_remind_68 post J (nI m) to D.1 (vv_X 1 vo he ha).1 (vv_X 1 vo he ha).2.1 (vv_X 1 vo he ha).2.2.1 (bb_X nm t pa tr td cc).1 (bb_X nm t pa tr td cc).2.1 (bb_X nm t pa tr td cc).2.2.1 (bb_X nm t pa tr td cc).2.2.2.1 (bb_X nm t pa tr td cc).2.2.2.2.1 (bb_X nm t pa tr td cc).2.2.2.2.2.1 (vv_X 1 vo he ha).2.2.2 (bb_X nm t pa tr td cc).2.2.2.2.2.2 Q'.1 Q'.2.1 Q'.2.2.1 Q'.2.2.2.1 L.1 L.2.1 L.2.2.1 L.2.2.2.1 L.2.2.2.2.1 L.2.2.2.2.2 D.2.1 D.2.2.1 D.2.2.2.1 D.2.2.2.2 p g Q'.2.2.2.2.1 Q'.2.2.2.2.2.1 Q'.2.2.2.2.2.2.1 Q'.2.2.2.2.2.2.2) : wX_remind_40 post J (nI m) 0 to D.1 (vv_X 1 vo he ha).1 (vv_X 1 vo he ha).2.1 (vv_X 1 vo he ha).2.2.1 (bb_X nm t pa tr td cc).1 (bb_X nm t pa tr td cc).2.1 (bb_X nm t pa tr td cc).2.2.1 (bb_X nm t pa tr td cc).2.2.2.1 (bb_X nm t pa tr td cc).2.2.2.2.1 (bb_X nm t pa tr td cc).2.2.2.2.2.1 (vv_X 1 vo he ha).2.2.2 (bb_X nm t pa tr td cc).2.2.2.2.2.2 Q.1 Q.2.1 Q.2.2.1 Q.2.2.2.1 L.1 L.2.1 L.2.2.1 L.2.2.2.1 L.2.2.2.2.1 L.2.2.2.2.2 D.2.1 D.2.2.1 D.2.2.2.1 D.2.2.2.2 p g Q.2.2.2.2.1 Q.2.2.2.2.2.1 Q.2.2.2.2.2.2.1 Q.2.2.2.2.2.2.2 := by
  unfold wX_remind_40
  refine xq_part1 (V := vv_X 1 vo he ha) hpa hm hb (br_f (by decide) (br_t rfl (br_t rfl ?_)))
  exact xq_send (V := vv_X 1 vo he ha) (kd := 1) (fr := 3) (to := m) hQ htr hse (by decide) (by decide) (by omega) (fun z => by omega) h
/-- what one machine's turn does -/
theorem xr_40 {post : SX → Prop} {J : ty_J} {Z : ty_Z} {ph : Nat → Nat} {m : Nat} (hQ : qr_1 nm Z Q) (htr : tr < 8) (hse : Z.2.1 < 100000) (ht : t < 4) (hnm : 0 < nm) (hnm2 : nm < 10000) (hP : p (t * 3 + m) = if ph m = 1 ∨ ph m = 2 then nI nm else 0) (hpa : pa < 8) (hm : m < 3) (hst : st < 4)
    (h : ∀ Q', qr_1 nm (cq_rem1 pa tr st vo he ph m Z) Q' → J (nI (m + 1)) D.1 (vv_X st vo he ha).1 (vv_X st vo he ha).2.1 (vv_X st vo he ha).2.2.1 (bb_X nm t pa tr td cc).1 (bb_X nm t pa tr td cc).2.1 (bb_X nm t pa tr td cc).2.2.1 (bb_X nm t pa tr td cc).2.2.2.1 (bb_X nm t pa tr td cc).2.2.2.2.1 (bb_X nm t pa tr td cc).2.2.2.2.2.1 (vv_X st vo he ha).2.2.2 (bb_X nm t pa tr td cc).2.2.2.2.2.2 Q'.1 Q'.2.1 Q'.2.2.1 Q'.2.2.2.1 L.1 L.2.1 L.2.2.1 L.2.2.2.1 L.2.2.2.2.1 L.2.2.2.2.2 D.2.1 D.2.2.1 D.2.2.2.1 D.2.2.2.2 p g Q'.2.2.2.2.1 Q'.2.2.2.2.2.1 Q'.2.2.2.2.2.2.1 Q'.2.2.2.2.2.2.2) {vd to : Int32} (hvd : vd = if vo.testBit m = true then 1 else 0) (hto : to = if he.testBit m = true then 1 else 0) :
    wX_remind_40 post J (nI m) vd to D.1 (vv_X st vo he ha).1 (vv_X st vo he ha).2.1 (vv_X st vo he ha).2.2.1 (bb_X nm t pa tr td cc).1 (bb_X nm t pa tr td cc).2.1 (bb_X nm t pa tr td cc).2.2.1 (bb_X nm t pa tr td cc).2.2.2.1 (bb_X nm t pa tr td cc).2.2.2.2.1 (bb_X nm t pa tr td cc).2.2.2.2.2.1 (vv_X st vo he ha).2.2.2 (bb_X nm t pa tr td cc).2.2.2.2.2.2 Q.1 Q.2.1 Q.2.2.1 Q.2.2.2.1 L.1 L.2.1 L.2.2.1 L.2.2.2.1 L.2.2.2.2.1 L.2.2.2.2.2 D.2.1 D.2.2.1 D.2.2.2.1 D.2.2.2.2 p g Q.2.2.2.2.1 Q.2.2.2.2.2.1 Q.2.2.2.2.2.2.1 Q.2.2.2.2.2.2.2 := by
  cases hb : pa.testBit m with
  | false =>
    have ec : cq_rem1 pa tr st vo he ph m Z = Z := if_pos hb
    rw [ec] at h
    exact xr_40s hpa hm hst (Or.inl hb) (xr_68s hpa hm hst (Or.inl hb) (xr_95s hpa hm hst (Or.inl hb) (h Q hQ)))
  | true =>
    have e0 : cq_rem1 pa tr st vo he ph m Z = if st = 1 then (if vo.testBit m = true then Z else cq_send tr 1 3 m Z) else if st = 2 then (if he.testBit m = true then Z else cq_send tr 4 3 m Z) else if st = 3 then (if he.testBit m = true then Z else if ph m = 1 ∨ ph m = 2 then cq_send tr 7 m 3 Z else cq_send tr 5 3 m Z) else Z :=
      if_neg (by rw [hb]; decide)
    rw [e0] at h
    by_cases s1 : st = 1
    · subst s1
      rw [if_pos rfl] at h
      have k95 : ∀ Q', qr_1 nm (if vo.testBit m = true then Z else cq_send tr 1 3 m Z) Q' → wX_remind_68 post J (nI m) to D.1 (vv_X 1 vo he ha).1 (vv_X 1 vo he ha).2.1 (vv_X 1 vo he ha).2.2.1 (bb_X nm t pa tr td cc).1 (bb_X nm t pa tr td cc).2.1 (bb_X nm t pa tr td cc).2.2.1 (bb_X nm t pa tr td cc).2.2.2.1 (bb_X nm t pa tr td cc).2.2.2.2.1 (bb_X nm t pa tr td cc).2.2.2.2.2.1 (vv_X 1 vo he ha).2.2.2 (bb_X nm t pa tr td cc).2.2.2.2.2.2 Q'.1 Q'.2.1 Q'.2.2.1 Q'.2.2.2.1 L.1 L.2.1 L.2.2.1 L.2.2.2.1 L.2.2.2.2.1 L.2.2.2.2.2 D.2.1 D.2.2.1 D.2.2.2.1 D.2.2.2.2 p g Q'.2.2.2.2.1 Q'.2.2.2.2.2.1 Q'.2.2.2.2.2.2.1 Q'.2.2.2.2.2.2.2 := fun Q' hQ' =>
        xr_68s hpa hm hst (Or.inr (Or.inl (by decide))) (xr_95s hpa hm hst (Or.inr (Or.inl (by decide))) (h Q' hQ'))
      cases hv : vo.testBit m with
      | true =>
        rw [hv, if_pos rfl] at hvd
        rw [hv, if_pos rfl] at k95
        exact xr_40s hpa hm hst (Or.inr (Or.inr (by rw [hvd]; decide))) (k95 Q hQ)
      | false =>
        rw [hv, if_neg (by decide)] at hvd
        rw [hv, if_neg (by decide)] at k95
        subst hvd
        exact xr_40d hQ htr hse hpa hm hb k95
    · rw [if_neg s1] at h
      refine xr_40s hpa hm hst (Or.inr (Or.inl s1)) ?_
      by_cases s2 : st = 2
      · subst s2
        rw [if_pos rfl] at h
        have k95 : ∀ Q', qr_1 nm (if he.testBit m = true then Z else cq_send tr 4 3 m Z) Q' → wX_remind_95 post J (nI m) to D.1 (vv_X 2 vo he ha).1 (vv_X 2 vo he ha).2.1 (vv_X 2 vo he ha).2.2.1 (bb_X nm t pa tr td cc).1 (bb_X nm t pa tr td cc).2.1 (bb_X nm t pa tr td cc).2.2.1 (bb_X nm t pa tr td cc).2.2.2.1 (bb_X nm t pa tr td cc).2.2.2.2.1 (bb_X nm t pa tr td cc).2.2.2.2.2.1 (vv_X 2 vo he ha).2.2.2 (bb_X nm t pa tr td cc).2.2.2.2.2.2 Q'.1 Q'.2.1 Q'.2.2.1 Q'.2.2.2.1 L.1 L.2.1 L.2.2.1 L.2.2.2.1 L.2.2.2.2.1 L.2.2.2.2.2 D.2.1 D.2.2.1 D.2.2.2.1 D.2.2.2.2 p g Q'.2.2.2.2.1 Q'.2.2.2.2.2.1 Q'.2.2.2.2.2.2.1 Q'.2.2.2.2.2.2.2 := fun Q' hQ' =>
          xr_95s hpa hm hst (Or.inr (Or.inl (by decide))) (h Q' hQ')
        cases hv : he.testBit m with
        | true =>
          rw [hv, if_pos rfl] at hto
          rw [hv, if_pos rfl] at k95
          exact xr_68s hpa hm hst (Or.inr (Or.inr (by rw [hto]; decide))) (k95 Q hQ)
        | false =>
          rw [hv, if_neg (by decide)] at hto
          rw [hv, if_neg (by decide)] at k95
          subst hto
          exact xr_68d hQ htr hse hpa hm hb k95
      · rw [if_neg s2] at h
        refine xr_68s hpa hm hst (Or.inr (Or.inl s2)) ?_
        by_cases s3 : st = 3
        · subst s3
          rw [if_pos rfl] at h
          cases hv : he.testBit m with
          | true =>
            rw [hv, if_pos rfl] at hto
            rw [hv, if_pos rfl] at h
            exact xr_95s hpa hm hst (Or.inr (Or.inr (by rw [hto]; decide))) (h Q hQ)
          | false =>
            rw [hv, if_neg (by decide)] at hto
            rw [hv, if_neg (by decide)] at h
            subst hto
            exact xr_95d hQ htr hse ht hnm hnm2 hP hpa hm hb h
        · rw [if_neg s3] at h
          exact xr_95s hpa hm hst (Or.inr (Or.inl s3)) (h Q hQ)
theorem xr_1 {post : SX → Prop} {Z : ty_Z} {ph : Nat → Nat} {m n : Nat} (hQ : qr_1 nm Z Q) (htr : tr < 8) (hse : Z.2.1 < 100000) (ht : t < 4) (hnm : 0 < nm) (hnm2 : nm < 10000) (hP : p (t * 3 + m) = if ph m = 1 ∨ ph m = 2 then nI nm else 0) (hpa : pa < 8) (hvo : vo < 8) (hhe : he < 8) (hm : m < 3) (hst : st < 4)
    (h : ∀ Q', qr_1 nm (cq_rem1 pa tr st vo he ph m Z) Q' → wX_remind_2 post n (nI (m + 1)) D.1 (vv_X st vo he ha).1 (vv_X st vo he ha).2.1 (vv_X st vo he ha).2.2.1 (bb_X nm t pa tr td cc).1 (bb_X nm t pa tr td cc).2.1 (bb_X nm t pa tr td cc).2.2.1 (bb_X nm t pa tr td cc).2.2.2.1 (bb_X nm t pa tr td cc).2.2.2.2.1 (bb_X nm t pa tr td cc).2.2.2.2.2.1 (vv_X st vo he ha).2.2.2 (bb_X nm t pa tr td cc).2.2.2.2.2.2 Q'.1 Q'.2.1 Q'.2.2.1 Q'.2.2.2.1 L.1 L.2.1 L.2.2.1 L.2.2.2.1 L.2.2.2.2.1 L.2.2.2.2.2 D.2.1 D.2.2.1 D.2.2.2.1 D.2.2.2.2 p g Q'.2.2.2.2.1 Q'.2.2.2.2.2.1 Q'.2.2.2.2.2.2.1 Q'.2.2.2.2.2.2.2) :
    wX_remind_2 post (n + 1) (nI m) D.1 (vv_X st vo he ha).1 (vv_X st vo he ha).2.1 (vv_X st vo he ha).2.2.1 (bb_X nm t pa tr td cc).1 (bb_X nm t pa tr td cc).2.1 (bb_X nm t pa tr td cc).2.2.1 (bb_X nm t pa tr td cc).2.2.2.1 (bb_X nm t pa tr td cc).2.2.2.2.1 (bb_X nm t pa tr td cc).2.2.2.2.2.1 (vv_X st vo he ha).2.2.2 (bb_X nm t pa tr td cc).2.2.2.2.2.2 Q.1 Q.2.1 Q.2.2.1 Q.2.2.2.1 L.1 L.2.1 L.2.2.1 L.2.2.2.1 L.2.2.2.2.1 L.2.2.2.2.2 D.2.1 D.2.2.1 D.2.2.2.1 D.2.2.2.2 p g Q.2.2.2.2.1 Q.2.2.2.2.2.1 Q.2.2.2.2.2.2.1 Q.2.2.2.2.2.2.2 := by
  have k23 : ∀ vd, (vd = if vo.testBit m = true then 1 else 0) → wX_remind_23 post (wX_remind_2 post n) (nI m) vd D.1 (vv_X st vo he ha).1 (vv_X st vo he ha).2.1 (vv_X st vo he ha).2.2.1 (bb_X nm t pa tr td cc).1 (bb_X nm t pa tr td cc).2.1 (bb_X nm t pa tr td cc).2.2.1 (bb_X nm t pa tr td cc).2.2.2.1 (bb_X nm t pa tr td cc).2.2.2.2.1 (bb_X nm t pa tr td cc).2.2.2.2.2.1 (vv_X st vo he ha).2.2.2 (bb_X nm t pa tr td cc).2.2.2.2.2.2 Q.1 Q.2.1 Q.2.2.1 Q.2.2.2.1 L.1 L.2.1 L.2.2.1 L.2.2.2.1 L.2.2.2.2.1 L.2.2.2.2.2 D.2.1 D.2.2.1 D.2.2.2.1 D.2.2.2.2 p g Q.2.2.2.2.1 Q.2.2.2.2.2.1 Q.2.2.2.2.2.2.1 Q.2.2.2.2.2.2.2 := by
    intro vd hvd
    refine ek_if2 (zm_t he hhe m hm) (fun z => ?_) (fun z => ?_)
    · exact xr_40 hQ htr hse ht hnm hnm2 hP hpa hm hst h hvd (by rw [z, if_neg (by decide)])
    · have z : he.testBit m = true := by
        cases q : he.testBit m
        · exact absurd q z
        · rfl
      exact xr_40 hQ htr hse ht hnm hnm2 hP hpa hm hst h hvd (by rw [z, if_pos rfl])
  refine br_f (nI_ge (b := 3) hm (by decide)) (ek_if2 (zm_t vo hvo m hm) (fun z => k23 _ ?_) (fun z => k23 _ ?_))
  · rw [z, if_neg (by decide)]
  · have z : vo.testBit m = true := by
      cases q : vo.testBit m
      · exact absurd q z
      · rfl
    rw [z, if_pos rfl]
theorem xr_remind {post : SX → Prop} {Z : ty_Z} {ph : Nat → Nat} (hQ : qr_1 nm Z Q) (htr : tr < 8) (hse : Z.2.1 < 50000) (ht : t < 4) (hnm : 0 < nm) (hnm2 : nm < 10000) (hP : ∀ m, m < 3 → p (t * 3 + m) = if ph m = 1 ∨ ph m = 2 then nI nm else 0) (hpa : pa < 8) (hvo : vo < 8) (hhe : he < 8) (hst : st < 4)
    (h : ∀ Q', qr_1 nm (cq_rem pa tr st vo he ph Z) Q' → post (mk_X (bb_X nm t pa tr td cc) (vv_X st vo he ha) Q' L D p g)) :
    wpX_remind post (mk_X (bb_X nm t pa tr td cc) (vv_X st vo he ha) Q L D p g) := by
  have s0 := cq_se1 pa tr st vo he ph 0 Z
  have s1 := cq_se1 pa tr st vo he ph 1 (cq_rem1 pa tr st vo he ph 0 Z)
  refine Exists.intro 4 ?_
  refine xr_1 (m := 0) hQ htr (by omega) ht hnm hnm2 (hP 0 (by decide)) hpa hvo hhe (by decide) hst (fun Q1 h1 => ?_)
  refine xr_1 (m := 1) h1 htr (by omega) ht hnm hnm2 (hP 1 (by decide)) hpa hvo hhe (by decide) hst (fun Q2 h2 => ?_)
  refine xr_1 (m := 2) h2 htr (by omega) ht hnm hnm2 (hP 2 (by decide)) hpa hvo hhe (by decide) hst (fun Q3 h3 => ?_)
  exact br_t (nI_le (a := 3) (b := 3) (by decide) (by decide)) (h Q3 h3)
end
end
section
/-! ===== the middle of a commit ===== -/
/-- who has been struck besides t -/
def mi_K (H : Nat → Nat) (t td ev : Nat) : Nat → Bool := fun i => !decide (i = t) && (decide (ev = 2) || (decide (ev = 1) && hn_k H td i 12))
def mi_h (t x : Nat) (c : Bool) : Nat := if x ≤ 1 ∨ (x = 2 ∧ c = true) then t + 1 else 0
/-- who holds what, by the phases: 0 works, 1 has promised, 2 has promised and come back, 3 done, 4 has lost all, 5 undone -/
def mi_H (H : Nat → Nat) (C : Nat → Bool) (t td ev : Nat) (ph : Nat → Nat) : Nat → Nat := fun k => if H k = t + 1 then mi_h t (ph (k % 3)) (C k) else kl_H (mi_K H t td ev) H k
def mi_N (N : Nat → Int32) (H : Nat → Nat) (S : Nat → Int32) (C : Nat → Bool) (t : Nat) (ph : Nat → Nat) : Nat → Int32 := fun k => if H k = t + 1 ∧ C k = true ∧ ph (k % 3) = 3 then S k else N k
def mi_A (A : Nat → Bool) (H : Nat → Nat) (t td ev : Nat) : Nat → Bool := kl_A (mi_K H t td ev) A
def mi_b (x : Nat) : Nat := if x = 0 ∨ x = 4 then 40 else if x ≤ 2 then 45 else 46
def mi_o (nm x : Nat) : Int32 := if x = 1 ∨ x = 2 then nI nm else 0
def mi_l (nm t : Nat) (H : Nat → Nat) (S : Nat → Int32) (C : Nat → Bool) (L : ty_L) (m x : Nat) (M : Nat → Int32) : Prop :=
  ∃ n, n ≤ mi_b x ∧ lg_m L m n nm M (mi_o nm x) ∧ (x = 0 → ∀ i, i < n → L.2.2.2.1 (m * 64 + i) ≠ nI nm) ∧ (x = 1 ∨ x = 2 → pw_1 L m n nm t H S C ∧ pw_2 L m n nm t H C 12)
def mi_d (nm de : Nat) (L : ty_L) : Prop := ∃ n, n ≤ 40 + de ∧ ld_r L n nm ∧ ((∃ i, i < n ∧ L.2.2.1 (3 * 64 + i) = 5 ∧ L.2.2.2.1 (3 * 64 + i) = nI nm) ↔ de = 1)
def mi_p (nm t : Nat) (ph : Nat → Nat) (p : Nat → Int32) : Prop := ∀ j, j < 12 → p j = if j / 3 = t ∧ (ph (j % 3) = 1 ∨ ph (j % 3) = 2) then nI nm else 0
def mi_g (t : Nat) (A' : Nat → Bool) (ph : Nat → Nat) (g : Nat → Int32) : Prop :=
  (∀ m, m < 3 → (ph m ≤ 1 → g (t * 3 + m) = 0) ∧ (ph m = 4 → g (t * 3 + m) = 1)) ∧ (∀ t', t' < 4 → t' ≠ t → A' t' = true → ∀ m, m < 3 → g (t' * 3 + m) = 0)
/-- what stays true of the commit's givens -/
def en_v (nm t pa tr td : Nat) (A : Nat → Bool) (H : Nat → Nat) : Prop :=
  0 < nm ∧ nm < 10000 ∧ t < 4 ∧ pa < 8 ∧ tr < 8 ∧ td < 3 ∧ A t = true ∧ (∀ k, k < 12 → H k < 5) ∧ (∀ k, k < 12 → H k ≠ 0 → A (H k - 1) = true) ∧ (∀ m, m < 3 → pa.testBit m = hn_k H m t 12)
def cj_X (nm t td : Nat) (A : Nat → Bool) (N : Nat → Int32) (H : Nat → Nat) (S : Nat → Int32) (C : Nat → Bool) (c : ty_C) (Q : ty_Q) (L : ty_L) (D : ty_D) (p g : Nat → Int32) : Prop :=
  ((c.1 < 4 ∧ c.1 ≠ 0 ∧ (c.1 = 1 → c.2.2.2.2.1 = 0)) ∧ c.2.1 < 8 ∧ c.2.2.1 < 8 ∧ c.2.2.2.1 < 2 ∧ c.2.2.2.2.1 < 2) ∧ qr_1 nm c.2.2.2.2.2.2.2 Q ∧
  co_re (mi_A A H t td c.2.2.2.2.2.1) (mi_N N H S C t c.2.2.2.2.2.2.1) (mi_H H C t td c.2.2.2.2.2.1 c.2.2.2.2.2.2.1) S C D ∧
  (∀ m, m < 3 → mi_l nm t H S C L m (c.2.2.2.2.2.2.1 m) (mi_N N H S C t c.2.2.2.2.2.2.1)) ∧ mi_d nm c.2.2.2.2.1 L ∧
  mi_p nm t c.2.2.2.2.2.2.1 p ∧ mi_g t (mi_A A H t td c.2.2.2.2.2.1) c.2.2.2.2.2.2.1 g
/-! pure rows on the views -/
theorem kl_le (K : Nat → Bool) (H : Nat → Nat) (k : Nat) : kl_H K H k = 0 ∨ kl_H K H k = H k := by
  unfold kl_H
  split
  · exact Or.inl rfl
  · exact Or.inr rfl
theorem mi_h01 (t x : Nat) (c : Bool) : mi_h t x c = 0 ∨ mi_h t x c = t + 1 := by
  unfold mi_h
  split
  · exact Or.inr rfl
  · exact Or.inl rfl
theorem mi_Ht {H C t td ev ph} {k : Nat} (h : H k = t + 1) : mi_H H C t td ev ph k = mi_h t (ph (k % 3)) (C k) := if_pos h
theorem mi_Hn {H C t td ev ph} {k : Nat} (h : ¬ H k = t + 1) : mi_H H C t td ev ph k = kl_H (mi_K H t td ev) H k := if_neg h
theorem mi_Hi {H C t td ev ph} {k : Nat} (h : mi_H H C t td ev ph k = t + 1) : H k = t + 1 := by
  by_cases c : H k = t + 1
  · exact c
  · rw [mi_Hn c] at h
    rcases kl_le (mi_K H t td ev) H k with q | q <;> omega
theorem mi_K0 (H : Nat → Nat) (t td i : Nat) : mi_K H t td 0 i = false := by unfold mi_K; simp
theorem mi_H0 {H C t td ph} {k : Nat} (h : ¬ H k = t + 1) : mi_H H C t td 0 ph k = H k := by
  rw [mi_Hn h]
  unfold kl_H
  rw [mi_K0]
  simp
theorem mi_A0 (A H t td i) : mi_A A H t td 0 i = A i := by
  unfold mi_A kl_A
  rw [mi_K0]
  simp
/-- a change of phase that keeps the view -/
theorem mi_Nc {N H S C t ph ph'} {k : Nat} (h : ph' (k % 3) = 3 ↔ ph (k % 3) = 3) : mi_N N H S C t ph' k = mi_N N H S C t ph k := by
  unfold mi_N
  by_cases c : H k = t + 1 ∧ C k = true ∧ ph (k % 3) = 3
  · rw [if_pos c, if_pos ⟨c.1, c.2.1, h.mpr c.2.2⟩]
  · rw [if_neg c, if_neg (fun q => c ⟨q.1, q.2.1, h.mp q.2.2⟩)]
theorem mi_Hc {H C t td ev ph ph'} {k : Nat} (h : mi_h t (ph' (k % 3)) (C k) = mi_h t (ph (k % 3)) (C k)) : mi_H H C t td ev ph' k = mi_H H C t td ev ph k := by
  by_cases c : H k = t + 1
  · rw [mi_Ht c, mi_Ht c, h]
  · rw [mi_Hn c, mi_Hn c]
theorem zt_un1 {f : Nat → Nat} {k x : Nat} : zt_un f k x k = x := if_pos rfl
theorem zt_un0 {f : Nat → Nat} {k x j : Nat} (h : j ≠ k) : zt_un f k x j = f j := if_neg h
/-- releasing takes a machine's phase to 3, 4 or 5 -/
theorem mi_rel {H C t td ev ph} {m x : Nat} (hx : 3 ≤ x) (k : Nat) : mi_H H C t td ev (zt_un ph m x) k = rl_m t m (mi_H H C t td ev ph) k := by
  unfold rl_m
  by_cases c : H k = t + 1
  · rw [mi_Ht c, mi_Ht c]
    by_cases e : k % 3 = m
    · rw [e, zt_un1]
      have : mi_h t x (C k) = 0 := if_neg (by omega)
      rw [this]
      rcases mi_h01 t (ph m) (C k) with q | q
      · rw [q]; simp
      · rw [q, if_pos ⟨rfl, rfl⟩]
    · rw [zt_un0 e, if_neg (fun q => e q.1)]
  · rw [mi_Hn c, mi_Hn c, if_neg]
    rintro ⟨_, b⟩
    rcases kl_le (mi_K H t td ev) H k with q | q <;> omega
/-- done -/
theorem mi_done {N H S C t ph} {m : Nat} (k : Nat) : mi_N N H S C t (zt_un ph m 3) k = if k % 3 = m ∧ H k = t + 1 ∧ C k = true then S k else mi_N N H S C t ph k := by
  by_cases c : k % 3 = m ∧ H k = t + 1 ∧ C k = true
  · rw [if_pos c]
    unfold mi_N
    rw [if_pos ⟨c.2.1, c.2.2, by rw [c.1]; exact zt_un1⟩]
  · rw [if_neg c]
    by_cases e : k % 3 = m
    · unfold mi_N
      rw [if_neg (fun q => c ⟨e, q.1, q.2.1⟩), if_neg (fun q => c ⟨e, q.1, q.2.1⟩)]
    · exact mi_Nc (by rw [zt_un0 e])
theorem mi_b46 (x : Nat) : mi_b x ≤ 46 := by
  unfold mi_b
  split
  · omega
  · split <;> omega
/-- the log when the numbers stay on this machine -/
theorem mi_lc {nm t H S C} {L : ty_L} {m x : Nat} {M M' : Nat → Int32} (h : mi_l nm t H S C L m x M) (hM : ∀ k, k < 12 → k % 3 = m → M' k = M k) : mi_l nm t H S C L m x M' := by
  obtain ⟨n, a, b, c⟩ := h
  exact ⟨n, a, lg_m_c b (Nat.le_refl _) hM, c⟩
theorem mi_lf {nm t H S C} {L L' : ty_L} {m m' x : Nat} {M : Nat → Int32} (h : mi_l nm t H S C L m' x M) (hf : lg_fr m L L') (hm : m' ≠ m) : mi_l nm t H S C L' m' x M := by
  obtain ⟨n, a, b, c, d⟩ := h
  have hb := mi_b46 x
  have e : ∀ i, i < n → L'.2.2.1 (m' * 64 + i) = L.2.2.1 (m' * 64 + i) ∧ L'.2.2.2.1 (m' * 64 + i) = L.2.2.2.1 (m' * 64 + i) ∧ L'.2.2.2.2.1 (m' * 64 + i) = L.2.2.2.2.1 (m' * 64 + i) ∧ L'.2.2.2.2.2 (m' * 64 + i) = L.2.2.2.2.2 (m' * 64 + i) := fun i hi => (hf.2 m' hm).2 i (by omega)
  refine ⟨n, a, lg_m_fr b hf hm (by omega), fun z i hi => ?_, fun z => ⟨fun i hi h1 h2 => ?_, fun k hK hk hq h1 h2 => ?_⟩⟩
  · rw [(e i hi).2.1]; exact c z i hi
  · obtain ⟨e1, e2, e3, e4⟩ := e i hi
    rw [e1] at h1; rw [e2] at h2; rw [e3, e4]
    exact (d z).1 i hi h1 h2
  · obtain ⟨i, a1, a2, a3, a4⟩ := (d z).2 k hK hk hq h1 h2
    obtain ⟨e1, e2, e3, e4⟩ := e i a1
    exact ⟨i, a1, e1.trans a2, e2.trans a3, e3.trans a4⟩
theorem mi_df {nm de : Nat} {L L' : ty_L} {m : Nat} (h : mi_d nm de L) (hd : de < 2) (hf : lg_fr m L L') (hm : m < 3) : mi_d nm de L' := by
  obtain ⟨n, a, ⟨b1, b2⟩, c⟩ := h
  have e : ∀ i, i < n → L'.2.2.1 (3 * 64 + i) = L.2.2.1 (3 * 64 + i) ∧ L'.2.2.2.1 (3 * 64 + i) = L.2.2.2.1 (3 * 64 + i) := fun i hi => ⟨((hf.2 3 (by omega)).2 i (by omega)).1, ((hf.2 3 (by omega)).2 i (by omega)).2.1⟩
  refine ⟨n, a, ⟨((hf.2 3 (by omega)).1).trans b1, fun i hi => by rw [(e i hi).2]; exact b2 i hi⟩, ?_⟩
  rw [← c]
  constructor
  · rintro ⟨i, h1, h2, h3⟩; exact ⟨i, h1, by rw [← (e i h1).1]; exact h2, by rw [← (e i h1).2]; exact h3⟩
  · rintro ⟨i, h1, h2, h3⟩; exact ⟨i, h1, by rw [(e i h1).1]; exact h2, by rw [(e i h1).2]; exact h3⟩
/-- the leader's log grows: nothing else changes -/
theorem mi_ll {nm t H S C} {L : ty_L} {m x n : Nat} {kd y ky v : Int32} {M : Nat → Int32} (h : mi_l nm t H S C L m x M) (hm : m < 3) (hn : n < 64) : mi_l nm t H S C (lg_A L 3 n kd y ky v) m x M :=
  mi_lf h (lg_fr_A L 3 n kd y ky v hn) (by omega)
theorem mi_pm {nm t ph p} {m : Nat} (h : mi_p nm t ph p) (ht : t < 4) (hm : m < 3) : p (t * 3 + m) = if ph m = 1 ∨ ph m = 2 then nI nm else 0 := by
  have e1 : (t * 3 + m) / 3 = t := by omega
  have e2 : (t * 3 + m) % 3 = m := by omega
  rw [h (t * 3 + m) (by omega), e1, e2]
  by_cases c : ph m = 1 ∨ ph m = 2
  · rw [if_pos ⟨rfl, c⟩, if_pos c]
  · rw [if_neg (fun q => c q.2), if_neg c]
theorem mi_pu {nm t ph p} {m x : Nat} {v : Int32} (h : mi_p nm t ph p) (ht : t < 4) (hm : m < 3) (hv : v = if x = 1 ∨ x = 2 then nI nm else 0) : mi_p nm t (zt_un ph m x) (upd p (t * 3 + m) v) := by
  intro j hj
  unfold upd
  by_cases c : j = t * 3 + m
  · have e1 : j / 3 = t := by omega
    have e2 : j % 3 = m := by omega
    rw [if_pos c, e1, e2, zt_un1, hv]
    by_cases d : x = 1 ∨ x = 2
    · rw [if_pos d, if_pos ⟨rfl, d⟩]
    · rw [if_neg d, if_neg (fun q => d q.2)]
  · rw [if_neg c, h j hj]
    by_cases d : j / 3 = t
    · rw [zt_un0 (by omega)]
    · rw [if_neg (fun q => d q.1), if_neg (fun q => d q.1)]
theorem mi_gu {t A' ph g} {m x : Nat} (h : mi_g t A' ph g) (h0 : x ≤ 1 → ph m ≤ 1) (h4 : x ≠ 4) : mi_g t A' (zt_un ph m x) g := by
  refine ⟨fun m' hm' => ?_, h.2⟩
  by_cases e : m' = m
  · subst e
    rw [zt_un1]
    exact ⟨fun z => (h.1 m' hm').1 (h0 z), fun z => absurd z h4⟩
  · rw [zt_un0 e]
    exact h.1 m' hm'
end
section
/-! ===== breaking down in the middle of a commit ===== -/
theorem mi_hn {H : Nat → Nat} {C : Nat → Bool} {t td : Nat} {ph : Nat → Nat} {i : Nat} (m : Nat) (hi : i ≠ t) : hn_k (mi_H H C t td 0 ph) m i 12 = hn_k H m i 12 := by
  apply hn_cong
  intro k hk
  by_cases c : H k = t + 1
  · rw [mi_Ht c, c]
    rcases mi_h01 t (ph (k % 3)) (C k) with q | q <;> rw [q] <;> omega
  · rw [mi_H0 c]
theorem mi_ht {H : Nat → Nat} {C : Nat → Bool} {t td : Nat} {ph : Nat → Nat} {m : Nat} : hn_k (mi_H H C t td 0 ph) m t 12 = true ↔ ∃ k, k < 12 ∧ k % 3 = m ∧ H k = t + 1 ∧ mi_h t (ph m) (C k) = t + 1 := by
  rw [hn_iff]
  constructor
  · rintro ⟨k, a, b, c⟩
    have d := mi_Hi c
    rw [mi_Ht d, b] at c
    exact ⟨k, a, b, d, c⟩
  · rintro ⟨k, a, b, c, d⟩
    exact ⟨k, a, b, by rw [mi_Ht c, b]; exact d⟩
theorem mi_K1 {H : Nat → Nat} {t td i : Nat} (hi : i ≠ t) : mi_K H t td 1 i = hn_k H td i 12 := by
  unfold mi_K
  simp [hi]
theorem mi_Kt (H : Nat → Nat) (t td ev : Nat) : mi_K H t td ev t = false := by
  unfold mi_K
  simp
theorem b1_A {A : Nat → Bool} {H : Nat → Nat} {C : Nat → Bool} {t td : Nat} {ph : Nat → Nat} {i : Nat} (hi : i < 4) :
    mi_A A H t td 1 i = kl_A (up_K (fun i => hn_k (mi_H H C t td 0 ph) td i 12 && !decide (i = t)) 4) (mi_A A H t td 0) i := by
  show (A i && !mi_K H t td 1 i) = (mi_A A H t td 0 i && !(decide (i < 4) && (hn_k (mi_H H C t td 0 ph) td i 12 && !decide (i = t))))
  rw [mi_A0]
  by_cases c : i = t
  · subst c; rw [mi_Kt]; simp
  · rw [mi_K1 c, mi_hn td c]
    simp [hi, c]
theorem b1_Ha {H : Nat → Nat} {C : Nat → Bool} {t td : Nat} {ph : Nat → Nat} {k : Nat} (ht : t < 4) (hk : k < 12) (h : H k = t + 1) (hm : k % 3 = td) :
    bd_H td (fun i => hn_k (mi_H H C t td 0 ph) td i 12) (fun i => decide (i = t)) 4 (mi_H H C t td 0 ph) k = 0 := by
  have e := mi_Ht (C := C) (td := td) (ev := 0) (ph := ph) h
  rcases mi_h01 t (ph (k % 3)) (C k) with q | q
  · rw [bd_H0, e, q]
    rintro ⟨z, _⟩
    rw [e, q] at z
    exact z rfl
  · rw [bd_H1]
    rw [e, q]
    refine ⟨by omega, by show t < 4; omega, ?_, fun _ => hm⟩
    show hn_k (mi_H H C t td 0 ph) td t 12 = true
    rw [mi_ht]
    exact ⟨k, hk, hm, h, by rw [← hm]; exact q⟩
theorem b1_Hb {H : Nat → Nat} {C : Nat → Bool} {t td : Nat} {ph : Nat → Nat} {k : Nat} (h : H k = t + 1) (hm : k % 3 ≠ td) :
    bd_H td (fun i => hn_k (mi_H H C t td 0 ph) td i 12) (fun i => decide (i = t)) 4 (mi_H H C t td 0 ph) k = mi_h t (ph (k % 3)) (C k) := by
  have e := mi_Ht (C := C) (td := td) (ev := 0) (ph := ph) h
  rw [bd_H0, e]
  rintro ⟨z, _, _, w⟩
  rw [e] at z w
  rcases mi_h01 t (ph (k % 3)) (C k) with q | q
  · exact z q
  · rw [q] at w
    exact hm (w (decide_eq_true rfl))
theorem b1_Hc {H : Nat → Nat} {C : Nat → Bool} {t td : Nat} {ph : Nat → Nat} {k : Nat} (h5 : H k < 5) (h : ¬ H k = t + 1) :
    bd_H td (fun i => hn_k (mi_H H C t td 0 ph) td i 12) (fun i => decide (i = t)) 4 (mi_H H C t td 0 ph) k = kl_H (mi_K H t td 1) H k := by
  have e := mi_H0 (C := C) (td := td) (ph := ph) h
  unfold kl_H
  by_cases z : H k = 0
  · rw [bd_H0 (fun q => q.1 (by rw [e]; exact z)), e, if_neg (fun q => q.1 z)]
  · have ne : H k - 1 ≠ t := by omega
    by_cases w : hn_k H td (H k - 1) 12 = true
    · rw [if_pos ⟨z, by rw [mi_K1 ne]; exact w⟩, bd_H1]
      rw [e]
      refine ⟨z, by show H k - 1 < 4; omega, ?_, fun q => absurd (of_decide_eq_true q) ne⟩
      show hn_k (mi_H H C t td 0 ph) td (H k - 1) 12 = true
      rw [mi_hn td ne]; exact w
    · rw [if_neg (fun q => w (by rw [← mi_K1 ne]; exact q.2)), bd_H0, e]
      rintro ⟨_, _, b, _⟩
      rw [e] at b
      have b' : hn_k (mi_H H C t td 0 ph) td (H k - 1) 12 = true := b
      rw [mi_hn td ne] at b'
      exact w b'
/-- who holds what behind the fall of a machine that had promised nothing, or was done -/
theorem b1_H {H : Nat → Nat} {C : Nat → Bool} {t td : Nat} {ph : Nat → Nat} {k x : Nat} (ht : t < 4) (hk : k < 12) (h5 : H k < 5) (hx : ∀ c, H k = t + 1 → k % 3 = td → mi_h t x c = 0) :
    mi_H H C t td 1 (zt_un ph td x) k = bd_H td (fun i => hn_k (mi_H H C t td 0 ph) td i 12) (fun i => decide (i = t)) 4 (mi_H H C t td 0 ph) k := by
  by_cases c : H k = t + 1
  · rw [mi_Ht c]
    by_cases m : k % 3 = td
    · rw [b1_Ha ht hk c m, m, zt_un1]
      exact hx (C k) c m
    · rw [b1_Hb c m, zt_un0 m]
  · rw [mi_Hn c, b1_Hc h5 c]
theorem b1_H2 {H : Nat → Nat} {C : Nat → Bool} {t td : Nat} {ph : Nat → Nat} {k : Nat} (ht : t < 4) (hk : k < 12) (h5 : H k < 5) :
    mi_H H C t td 1 (zt_un ph td 2) k = if k % 3 = td ∧ H k = t + 1 ∧ C k = true then t + 1 else bd_H td (fun i => hn_k (mi_H H C t td 0 ph) td i 12) (fun i => decide (i = t)) 4 (mi_H H C t td 0 ph) k := by
  by_cases c : H k = t + 1
  · rw [mi_Ht c]
    by_cases m : k % 3 = td
    · rw [b1_Ha ht hk c m, m, zt_un1]
      unfold mi_h
      by_cases d : C k = true
      · rw [if_pos (Or.inr ⟨rfl, d⟩), if_pos ⟨rfl, c, d⟩]
      · rw [if_neg (fun q => q.elim (fun z => by omega) (fun z => d z.2)), if_neg (fun q => d q.2.2)]
    · rw [b1_Hb c m, zt_un0 m, if_neg (fun q => m q.1)]
  · rw [mi_Hn c, b1_Hc h5 c, if_neg (fun q => c q.2.1)]
/-- promises behind the fall -/
theorem b1_P {nm t td : Nat} {ph : Nat → Nat} {hit : Nat → Bool} {p : Nat → Int32} (h : mi_p nm t ph p) {j : Nat} (hj : j < 12) (hn : ¬ (j / 3 = t ∧ j % 3 = td)) :
    bd_P td hit (fun i => decide (i = t)) 4 p j = if j / 3 = t ∧ (ph (j % 3) = 1 ∨ ph (j % 3) = 2) then nI nm else 0 := by
  by_cases c : bd_q td hit (fun i => decide (i = t)) 4 (j / 3) (j % 3)
  · rw [bd_P1 c, if_neg]
    rintro ⟨a, _⟩
    refine hn ⟨a, ?_⟩
    have := c.2.2 (decide_eq_true a)
    rw [Nat.mod_mod] at this
    exact this
  · rw [bd_P0 c, h j hj]
theorem b1_Pz {nm t td : Nat} {ph : Nat → Nat} {hit : Nat → Bool} {p : Nat → Int32} (h : mi_p nm t ph p) {j : Nat} (hj : j < 12) (hn : j / 3 = t ∧ j % 3 = td) (h12 : ¬ (ph td = 1 ∨ ph td = 2)) :
    bd_P td hit (fun i => decide (i = t)) 4 p j = 0 := by
  by_cases c : bd_q td hit (fun i => decide (i = t)) 4 (j / 3) (j % 3)
  · rw [bd_P1 c]
  · rw [bd_P0 c, h j hj, if_neg]
    rw [hn.2]
    exact fun q => h12 q.2
theorem b1_G {A A' : Nat → Bool} {t td : Nat} {ph : Nat → Nat} {hit : Nat → Bool} {g g' : Nat → Int32} {x : Nat} (ht : t < 4) (htd : td < 3) (h : mi_g t A ph g) (hA : ∀ i, A' i = true → A i = true)
    (hg : ∀ j, g' j = bd_G td hit (fun i => decide (i = t)) 4 g j) (h1 : x ≤ 1 → hit t = false ∧ ph td ≤ 1) (h4 : x = 4 → hit t = true) : mi_g t A' (zt_un ph td x) g' := by
  refine ⟨fun m hm => ?_, fun t' ht' hne hA' m hm => ?_⟩
  · have e1 : (t * 3 + m) / 3 = t := by omega
    have e2 : (t * 3 + m) % 3 = m := by omega
    rw [hg]
    by_cases e : m = td
    · subst e
      rw [zt_un1]
      refine ⟨fun z => ?_, fun z => ?_⟩
      · obtain ⟨a, b⟩ := h1 z
        rw [bd_G0]
        · exact (h.1 m hm).1 b
        · rintro ⟨_, q, _⟩
          rw [e1] at q
          exact absurd (a.symm.trans q) (by decide)
      · rw [bd_G1]
        rw [e1]
        exact ⟨by omega, h4 z, decide_eq_true rfl, e2⟩
    · rw [zt_un0 e, bd_G0]
      · exact h.1 m hm
      · rintro ⟨_, _, _, q⟩
        rw [e2] at q
        exact e q
  · have e1 : (t' * 3 + m) / 3 = t' := by omega
    rw [hg, bd_G0]
    · exact h.2 t' ht' hne (hA t' hA') m hm
    · rintro ⟨_, _, q, _⟩
      rw [e1] at q
      exact hne (of_decide_eq_true q)
section
variable {nm t pa tr td : Nat} {cc : Int32} {A : Nat → Bool} {N : Nat → Int32} {H : Nat → Nat} {S : Nat → Int32} {C : Nat → Bool}
variable {st vo he ha de ev : Nat} {ph : Nat → Nat} {Z : ty_Z}
variable {Q : ty_Q} {L : ty_L} {D : ty_D} {p g : Nat → Int32}
theorem xm_bd {post : Int32 → SX → Prop} (hE : en_v nm t pa tr td A H) (hj : cj_X nm t td A N H S C (st, vo, he, ha, de, 0, ph, Z) Q L D p g) (hph : ph td = 0 ∨ ph td = 1 ∨ ph td = 3) (hst : st ≠ 0)
    (h : ∀ r D' p' g', cj_X nm t td A N H S C (st, vo, he, ha, de, 1, cs_bph pa ph td, Z) Q L D' p' g' → post r (mk_X (bb_X nm t pa tr td cc) (vv_X st vo he ha) Q L D' p' g')) :
    wpX_breakDown post (mk_X (bb_X nm t pa tr td cc) (vv_X st vo he ha) Q L D p g) (nI td) := by
  obtain ⟨e1, e2, e3, e4, e5, e6, e7, e8, e9, e10⟩ := hE
  obtain ⟨j1, j2, j3, j4, j5, j6, j7⟩ := hj
  dsimp only at j1 j2 j3 j4 j5 j6 j7
  unfold wpX_breakDown
  refine xb_hold j3 e6 (fun y hy => ?_)
  have hit_t : ph td = 0 → hn_k (mi_H H C t td 0 ph) td t 12 = pa.testBit td := by
    intro z
    rw [e10 td e6]
    apply Bool.eq_iff_iff.mpr
    rw [mi_ht, hn_iff]
    constructor
    · rintro ⟨k, a, b, c, _⟩; exact ⟨k, a, b, c⟩
    · rintro ⟨k, a, b, c⟩; exact ⟨k, a, b, c, by rw [z]; exact if_pos (Or.inl (by omega))⟩
  have hA1 : ∀ i, mi_A A H t td 1 i = true → mi_A A H t td 0 i = true := by
    intro i q
    rw [mi_A0]
    unfold mi_A kl_A at q
    rw [Bool.and_eq_true] at q
    exact q.1
  refine Exists.intro 5 (xd_lp (A := mi_A A H t td 0) (N := mi_N N H S C t ph) (S := S) (C := C) (hit := fun i => hn_k (mi_H H C t td 0 ph) td i 12) (ex := fun i => decide (i = t)) p g (mi_H H C t td 0 ph) e6 (fun i hi => ?_) (fun i hi z => ?_) (fun i hi z => ?_) ?_ 4 0 5 D p g (by omega) (by omega) ?_ (fun j => ?_) (fun j => ?_))
  · rw [hy i (by omega)]
    simp [hi]
  · refine ⟨?_, ?_⟩
    · exact nI_ne0 (by omega) (by omega)
    · have : i = t := of_decide_eq_true z
      rw [this]
  · refine Or.inr ?_
    exact zt_ne (of_decide_eq_false z) (by omega) (by omega)
  · intro f D' p' g' hC' hP' hG'
    refine br_t (nI_le (a := 4) (b := 4) (by decide) (by decide)) ?_
    obtain ⟨n, l1, l2, l3, l4⟩ := j4 td e6
    have hb46 := mi_b46 (ph td)
    have fin : ∀ x, (x = 3 ↔ ph td = 3) → (zt_un ph td x = cs_bph pa ph td) → mi_l nm t H S C L td x (mi_N N H S C t ph) → ∀ D'' p'', co_re (mi_A A H t td 1) (mi_N N H S C t ph) (mi_H H C t td 1 (zt_un ph td x)) S C D'' → mi_p nm t (zt_un ph td x) p'' → mi_g t (mi_A A H t td 1) (zt_un ph td x) g' → cj_X nm t td A N H S C (st, vo, he, ha, de, 1, cs_bph pa ph td, Z) Q L D'' p'' g' := by
      intro x hx ex hl D'' p'' c1 c2 c3
      rw [← ex]
      have hN : ∀ k, mi_N N H S C t (zt_un ph td x) k = mi_N N H S C t ph k := by
        intro k
        apply mi_Nc
        by_cases q : k % 3 = td
        · rw [q, zt_un1]; exact hx
        · rw [zt_un0 q]
      refine ⟨j1, j2, co_cong c1 (fun _ _ => rfl) (fun k _ => hN k) (fun _ _ => rfl) (fun _ _ _ => rfl) (fun _ _ _ => rfl), fun m hm => ?_, j5, c2, c3⟩
      dsimp only
      by_cases q : m = td
      · rw [q, zt_un1]
        exact mi_lc hl (fun k _ _ => hN k)
      · rw [zt_un0 q]
        exact mi_lc (j4 m hm) (fun k _ _ => hN k)
    have hc0 : co_re (mi_A A H t td 1) (mi_N N H S C t ph) (bd_H td (fun i => hn_k (mi_H H C t td 0 ph) td i 12) (fun i => decide (i = t)) 4 (mi_H H C t td 0 ph)) S C D' :=
      co_cong hC' (fun i hi => b1_A hi) (fun _ _ => rfl) (fun _ _ => rfl) (fun _ _ _ => rfl) (fun _ _ _ => rfl)
    rcases hph with q | q | q
    · have l2' : lg_m L td n nm (mi_N N H S C t ph) 0 := by
        have : mi_o nm (ph td) = 0 := by rw [q]; exact if_neg (by omega)
        rw [this] at l2; exact l2
      have hn : n ≤ 40 := by rw [q] at l1; exact l1
      refine xl_cb0 (B := bb_X nm t pa tr td cc) (V := vv_X st vo he ha) e6 (by omega) hc0 l2' (fun D'' hD'' => h _ D'' p' g' ?_)
      have hz : hn_k (mi_H H C t td 0 ph) td t 12 = pa.testBit td := hit_t q
      have ex : zt_un ph td (if pa.testBit td = true then 4 else 0) = cs_bph pa ph td := by unfold cs_bph; rw [q, if_pos rfl]
      have pz : mi_p nm t (zt_un ph td (if pa.testBit td = true then 4 else 0)) p' := by
        intro j hj
        rw [hP' j]
        by_cases w : j / 3 = t ∧ j % 3 = td
        · rw [b1_Pz j6 hj w (by omega), w.2, zt_un1, if_neg]
          rintro ⟨_, b⟩
          cases hb : pa.testBit td <;> rw [hb] at b <;> simp at b
        · rw [b1_P j6 hj w]
          by_cases v : j / 3 = t
          · rw [zt_un0 (fun y => w ⟨v, y⟩)]
          · rw [if_neg (fun y => v y.1), if_neg (fun y => v y.1)]
      refine fin (if pa.testBit td = true then 4 else 0) ?_ ex ?_ D'' p' (co_cong hD'' (fun _ _ => rfl) (fun _ _ => rfl) (fun k hk => b1_H e3 hk (e8 k hk) (fun c hc hm => ?_)) (fun _ _ _ => rfl) (fun _ _ _ => rfl)) pz
        (b1_G e3 e6 j7 hA1 hG' (fun z => ?_) (fun z => ?_))
      · cases hb : pa.testBit td <;> simp [q]
      · refine ⟨n, ?_, ?_, fun z => ?_, fun z => ?_⟩
        · cases hb : pa.testBit td <;> exact hn
        · have : mi_o nm (if pa.testBit td = true then 4 else 0) = 0 := by
            cases hb : pa.testBit td <;> rfl
          rw [this]; exact l2'
        · exact l3 q
        · exfalso
          cases hb : pa.testBit td <;> rw [hb] at z <;> simp at z
      · have : pa.testBit td = true := by
          rw [e10 td e6, hn_iff]
          exact ⟨k, hk, hm, hc⟩
        rw [if_pos this]
        exact if_neg (by omega)
      · show hn_k (mi_H H C t td 0 ph) td t 12 = false ∧ ph td ≤ 1
        rw [hz]
        cases hb : pa.testBit td
        · exact ⟨rfl, by omega⟩
        · rw [hb, if_pos rfl] at z; omega
      · show hn_k (mi_H H C t td 0 ph) td t 12 = true
        rw [hz]
        cases hb : pa.testBit td
        · rw [hb, if_neg (by decide)] at z; omega
        · rfl
    · have l2' : lg_m L td n nm (mi_N N H S C t ph) (nI nm) := by
        have : mi_o nm (ph td) = nI nm := by rw [q]; exact if_pos (Or.inl rfl)
        rw [this] at l2; exact l2
      obtain ⟨w1, w2⟩ := l4 (Or.inl q)
      refine xl_cb1 (b4 := (nI pa, nI tr, nI td, cc)) (V := vv_X st vo he ha) (t := t) e6 (by omega) e3 e1 e2 hc0 l2' (fun i hi a b => ?_) (fun D'' hD'' => h _ D'' _ g' ?_)
      · obtain ⟨k, a1, a2, a3, a4, a5, a6⟩ := w1 i hi a b
        exact ⟨k, a1, a3, Or.inl (b1_Ha e3 a1 a4 a2), a5, a6⟩
      · have ex : zt_un ph td 2 = cs_bph pa ph td := by unfold cs_bph; rw [q, if_neg (by decide), if_pos rfl]
        refine fin 2 (by omega) ex ⟨n, by rw [q] at l1; exact l1, l2', fun z => by omega, fun _ => ⟨w1, w2⟩⟩ D'' _ (co_cong hD'' (fun _ _ => rfl) (fun _ _ => rfl) (fun k hk => ?_) (fun _ _ _ => rfl) (fun _ _ _ => rfl)) ?_ (b1_G e3 e6 j7 hA1 hG' (fun z => by omega) (fun z => by omega))
        · rw [pw_hln w1 w2 _ hk]
          exact b1_H2 e3 hk (e8 k hk)
        · intro j hj
          unfold upd
          by_cases w : j / 3 = t ∧ j % 3 = td
          · rw [if_pos (by omega), w.2, zt_un1, if_pos ⟨w.1, Or.inr rfl⟩]
          · rw [if_neg (by omega), hP' j, b1_P j6 hj w]
            by_cases v : j / 3 = t
            · rw [zt_un0 (fun y => w ⟨v, y⟩)]
            · rw [if_neg (fun y => v y.1), if_neg (fun y => v y.1)]
    · have l2' : lg_m L td n nm (mi_N N H S C t ph) 0 := by
        have : mi_o nm (ph td) = 0 := by rw [q]; exact if_neg (by omega)
        rw [this] at l2; exact l2
      refine xl_cb0 (B := bb_X nm t pa tr td cc) (V := vv_X st vo he ha) e6 (by omega) hc0 l2' (fun D'' hD'' => h _ D'' p' g' ?_)
      have ex : zt_un ph td 3 = cs_bph pa ph td := by unfold cs_bph; rw [q]; rfl
      refine fin 3 (by omega) ex ⟨n, by rw [q] at l1; exact l1, l2', fun z => by omega, fun z => by omega⟩ D'' p' (co_cong hD'' (fun _ _ => rfl) (fun _ _ => rfl) (fun k hk => b1_H e3 hk (e8 k hk) (fun c _ _ => if_neg (by omega))) (fun _ _ _ => rfl) (fun _ _ _ => rfl)) ?_
        (b1_G e3 e6 j7 hA1 hG' (fun z => by omega) (fun z => by omega))
      intro j hj
      rw [hP' j]
      by_cases w : j / 3 = t ∧ j % 3 = td
      · rw [b1_Pz j6 hj w (by omega), w.2, zt_un1, if_neg (by omega)]
      · rw [b1_P j6 hj w]
        by_cases v : j / 3 = t
        · rw [zt_un0 (fun y => w ⟨v, y⟩)]
        · rw [if_neg (fun y => v y.1), if_neg (fun y => v y.1)]
  · refine co_cong j3 (fun i hi => ?_) (fun _ _ => rfl) (fun k hk => ?_) (fun _ _ _ => rfl) (fun _ _ _ => rfl)
    · unfold kl_A up_K; simp
    · exact bd_H0 (fun q => absurd q.2.1 (Nat.not_lt_zero _))
  · exact (bd_P0 (fun q => absurd q.1 (Nat.not_lt_zero _))).symm
  · exact (bd_G0 (fun q => absurd q.1 (Nat.not_lt_zero _))).symm
end
end
section
/-! ===== the leader breaks; what machines hear ===== -/
abbrev vc_X (c : ty_C) : ty_V := vv_X c.1 c.2.1 c.2.2.1 c.2.2.2.1
section
variable {nm t pa tr td : Nat} {cc : Int32} {A : Nat → Bool} {N : Nat → Int32} {H : Nat → Nat} {S : Nat → Int32} {C : Nat → Bool}
variable {st vo he ha de ev : Nat} {ph : Nat → Nat} {Z : ty_Z}
variable {Q : ty_Q} {L : ty_L} {D : ty_D} {p g : Nat → Int32}
theorem cj_Z {Z' : ty_Z} {Q' : ty_Q} (hj : cj_X nm t td A N H S C (st, vo, he, ha, de, ev, ph, Z) Q L D p g) (hq : qr_1 nm Z' Q') : cj_X nm t td A N H S C (st, vo, he, ha, de, ev, ph, Z') Q' L D p g := ⟨hj.1, hq, hj.2.2⟩
theorem cj_V {st' vo' he' ha' : Nat} (hj : cj_X nm t td A N H S C (st, vo, he, ha, de, ev, ph, Z) Q L D p g) (h1 : st' < 4 ∧ st' ≠ 0 ∧ (st' = 1 → de = 0)) (h2 : vo' < 8) (h3 : he' < 8) (h4 : ha' < 2) : cj_X nm t td A N H S C (st', vo', he', ha', de, ev, ph, Z) Q L D p g := ⟨⟨h1, h2, h3, h4, hj.1.2.2.2.2⟩, hj.2⟩
theorem cj_up {L' : ty_L} {D' : ty_D} {m x : Nat} {v : Int32} (hE : en_v nm t pa tr td A H) (hm : m < 3) (hj : cj_X nm t td A N H S C (st, vo, he, ha, de, ev, ph, Z) Q L D p g) (hf : lg_fr m L L') (hl : mi_l nm t H S C L' m x (mi_N N H S C t (zt_un ph m x)))
    (hC : co_re (mi_A A H t td ev) (mi_N N H S C t (zt_un ph m x)) (mi_H H C t td ev (zt_un ph m x)) S C D') (hv : v = if x = 1 ∨ x = 2 then nI nm else 0) (h0 : x ≤ 1 → ph m ≤ 1) (h4 : x ≠ 4) :
    cj_X nm t td A N H S C (st, vo, he, ha, de, ev, zt_un ph m x, Z) Q L' D' (upd p (t * 3 + m) v) g := by
  obtain ⟨j1, j2, j3, j4, j5, j6, j7⟩ := hj
  dsimp only at j1 j2 j3 j4 j5 j6 j7
  refine ⟨j1, j2, hC, fun m' hm' => ?_, mi_df j5 j1.2.2.2.2 hf hm, mi_pu j6 hE.2.2.1 hm hv, mi_gu j7 h0 h4⟩
  dsimp only
  by_cases e : m' = m
  · rw [e, zt_un1]; exact hl
  · rw [zt_un0 e]
    exact mi_lc (mi_lf (j4 m' hm') hf e) (fun k _ hk => mi_Nc (by rw [zt_un0 (by omega)]))
theorem xm_bl {post : Int32 → SX → Prop} (hE : en_v nm t pa tr td A H) (hj : cj_X nm t td A N H S C (st, vo, he, ha, de, 0, ph, Z) Q L D p g) (hst : st ≠ 0)
    (h : ∀ r D' p', cj_X nm t td A N H S C (if de = 1 then 2 else 3, 0, 0, ha, de, 2, ph, Z) Q L D' p' g → post r (mk_X (bb_X nm t pa tr td cc) (vv_X (if de = 1 then 2 else 3) 0 0 ha) Q L D' p' g)) :
    wpX_breakLeader post (mk_X (bb_X nm t pa tr td cc) (vv_X st vo he ha) Q L D p g) := by
  obtain ⟨e1, e2, e3, e4, e5, e6, e7, e8, e9, e10⟩ := hE
  obtain ⟨j1, j2, j3, j4, j5, j6, j7⟩ := hj
  dsimp only at j1 j2 j3 j4 j5 j6 j7
  have j3' : co_re A (mi_N N H S C t ph) (mi_H H C t td 0 ph) S C D := co_cong j3 (fun i _ => (mi_A0 A H t td i).symm) (fun _ _ => rfl) (fun _ _ => rfl) (fun _ _ _ => rfl) (fun _ _ _ => rfl)
  refine Exists.intro 5 (xd_bl (A := A) (N := mi_N N H S C t ph) (S := S) (C := C) (ex := fun i => decide (i = t)) p (mi_H H C t td 0 ph) (fun i hi z => ?_) (fun i hi z => ?_) ?_ 4 0 5 D p (by omega) (by omega) ?_ (fun j => ?_))
  · refine ⟨nI_ne0 (by omega) (by omega), ?_⟩
    have : i = t := of_decide_eq_true z
    rw [this]
  · exact Or.inr (zt_ne (of_decide_eq_false z) (by omega) (by omega))
  · intro f D' p' hC' hP'
    refine br_t (nI_le (a := 4) (b := 4) (by decide) (by decide)) (br_f (nI_ne0 (by omega) (by omega)) ?_)
    obtain ⟨n, d1, d2, d3⟩ := j5
    have hA2 : ∀ i, i < 4 → mi_A A H t td 2 i = kl_A (up_K (fun i => A i && !decide (i = t)) 4) A i := by
      intro i hi
      show (A i && !mi_K H t td 2 i) = (A i && !(decide (i < 4) && (A i && !decide (i = t))))
      unfold mi_K
      cases A i <;> simp [hi]
    have fin : cj_X nm t td A N H S C (if de = 1 then 2 else 3, 0, 0, ha, de, 2, ph, Z) Q L D' p' g := by
      refine ⟨⟨?_, Nat.zero_lt_succ 7, Nat.zero_lt_succ 7, j1.2.2.2.1, j1.2.2.2.2⟩, j2, co_cong hC' hA2 (fun _ _ => rfl) (fun k hk => ?_) (fun _ _ _ => rfl) (fun _ _ _ => rfl), j4, ⟨n, d1, d2, d3⟩, fun j hj => ?_, j7.1, fun t' ht' hne hA' m hm => ?_⟩
      · dsimp only
        by_cases q : de = 1
        · rw [if_pos q]; exact ⟨by decide, by decide, fun z => absurd z (by decide)⟩
        · rw [if_neg q]; exact ⟨by decide, by decide, fun z => absurd z (by decide)⟩
      · dsimp only
        by_cases c : H k = t + 1
        · rw [mi_Ht c]
          unfold kl_H
          rw [mi_Ht c]
          rcases mi_h01 t (ph (k % 3)) (C k) with q | q
          · rw [q]; simp
          · rw [q]
            have : up_K (fun i => A i && !decide (i = t)) 4 (t + 1 - 1) = false := by unfold up_K; simp
            rw [if_neg (fun z => absurd (this.symm.trans z.2) (by decide))]
        · rw [mi_Hn c]
          unfold kl_H
          rw [mi_H0 c]
          by_cases z : H k = 0
          · rw [if_neg (fun q => q.1 z), if_neg (fun q => q.1 z)]
          · have ne : ¬ H k - 1 = t := by omega
            have h5 := e8 k hk
            have h4 : H k - 1 < 4 := by omega
            have a1 : mi_K H t td 2 (H k - 1) = true := by unfold mi_K; simp [ne]
            have a2 : up_K (fun i => A i && !decide (i = t)) 4 (H k - 1) = true := by unfold up_K; simp [ne, h4, e9 k hk z]
            rw [if_pos ⟨z, a1⟩, if_pos ⟨z, a2⟩]
      · rw [hP' j]
        by_cases c : up_K (fun i => A i && !decide (i = t)) 4 (j / 3) = true
        · have ne : ¬ j / 3 = t := by
            intro q
            rw [q] at c
            unfold up_K at c
            simp at c
          rw [if_pos c, if_neg (fun q => ne q.1)]
        · rw [if_neg c]
          exact j6 j hj
      · refine j7.2 t' ht' hne ?_ m hm
        dsimp only at hA'
        rw [mi_A0]
        unfold mi_A kl_A at hA'
        rw [Bool.and_eq_true] at hA'
        exact hA'.1
    have hh := h (nI (cn_t (fun i => A i && !decide (i = t)) 4)) D' p' fin
    refine xl_isl (B := bb_X nm t pa tr td cc) (V := vv_X st 0 0 ha) (m := 3) (n := n) (by decide) (by omega) d2.1 5 (nI nm) (fun q => br_f (by decide) ?_) (fun q => br_t rfl ?_)
    · rw [if_pos (d3.mp q)] at hh
      exact hh
    · rw [if_neg (fun z => q (d3.mpr z))] at hh
      exact hh
  · refine co_cong j3' (fun i hi => ?_) (fun _ _ => rfl) (fun k hk => ?_) (fun _ _ _ => rfl) (fun _ _ _ => rfl)
    · unfold kl_A up_K; simp
    · unfold kl_H up_K; simp
  · unfold up_K; simp
theorem cs_bev0 {ev m : Nat} {ph : Nat → Nat} (h : cs_bev ev ph m < 9) : ev = 0 ∧ (ph m = 0 ∨ ph m = 1 ∨ ph m = 3) ∧ cs_bev ev ph m = 1 := by
  by_cases c : ev = 0 ∧ (ph m = 0 ∨ ph m = 1 ∨ ph m = 3)
  · exact ⟨c.1, c.2, if_pos c⟩
  · have : cs_bev ev ph m = 9 := if_neg c
    omega
/-- the trouble strikes a machine -/
theorem xm_hit {post : Int32 → SX → Prop} (hE : en_v nm t pa tr td A H) (hj : cj_X nm t td A N H S C (st, vo, he, ha, de, ev, ph, Z) Q L D p g) (hst : st ≠ 0) {m : Nat} (hm : m = td) (hev : cs_bev ev ph m < 9)
    (h : ∀ r D' p' g', cj_X nm t td A N H S C (st, vo, he, 1, de, cs_bev ev ph m, cs_bph pa ph m, Z) Q L D' p' g' → post r (mk_X (bb_X nm t pa tr td cc) (vv_X st vo he 1) Q L D' p' g')) :
    wpX_breakDown post (mk_X (bb_X nm t pa tr td cc) (vv_X st vo he 1) Q L D p g) (nI m) := by
  subst hm
  obtain ⟨h1, h2, h3⟩ := cs_bev0 hev
  rw [h3] at h
  subst h1
  exact xm_bd hE (cj_V hj hj.1.1 hj.1.2.1 hj.1.2.2.1 (by decide)) h2 hst h
theorem xm_pre {post : SX → Prop} (hE : en_v nm t pa tr td A H) (hj : cj_X nm t td A N H S C (st, vo, he, ha, de, ev, ph, Z) Q L D p g) (hst : st ≠ 0) {m : Nat} (hm : m < 3) (hse : Z.2.1 < 50000)
    (hev : (cs_pre pa tr td m (st, vo, he, ha, de, ev, ph, Z)).2.2.2.2.2.1 < 9)
    (h : ∀ Q' L' D' p' g', cj_X nm t td A N H S C (cs_pre pa tr td m (st, vo, he, ha, de, ev, ph, Z)) Q' L' D' p' g' → post (mk_X (bb_X nm t pa tr td cc) (vc_X (cs_pre pa tr td m (st, vo, he, ha, de, ev, ph, Z))) Q' L' D' p' g')) :
    wpX_hearPrepare post (mk_X (bb_X nm t pa tr td cc) (vv_X st vo he ha) Q L D p g) (nI m) := by
  obtain ⟨e1, e2, e3, e4, e5, e6, e7, e8, e9, e10⟩ := id hE
  obtain ⟨j1, j2, j3, j4, j5, j6, j7⟩ := id hj
  dsimp only at j1 j2 j3 j4 j5 j6 j7
  unfold wpX_hearPrepare
  refine xq_str (w := 1) (by decide) hm e5 e6 j1.2.2.2.1 (fun z1 z2 z3 => ?_) (fun z => ?_)
  · have ec : cs_pre pa tr td m (st, vo, he, ha, de, ev, ph, Z) = (st, vo, he, 1, de, cs_bev ev ph m, cs_bph pa ph m, Z) := if_pos ⟨z1, z2, z3⟩
    rw [ec] at hev h
    exact br_f (by decide) (xm_hit hE hj hst z3 hev (fun r D' p' g' hj' => h Q L D' p' g' hj'))
  · have ec : cs_pre pa tr td m (st, vo, he, ha, de, ev, ph, Z) = if ph m = 4 then (st, vo, he, ha, de, ev, ph, cq_send tr 3 m 3 Z) else if ph m = 0 then (st, vo, he, ha, de, ev, zt_un ph m 1, cq_send tr 2 m 3 Z) else if ph m = 1 then (st, vo, he, ha, de, ev, ph, cq_send tr 2 m 3 Z) else (st, vo, he, ha, de, 9, ph, Z) := if_neg z
    rw [ec] at hev h
    refine br_t rfl (nm_r (zi_3 t m) (And.intro (vp_in_nI (by omega) (by decide)) ?_))
    rw [zt_cl (by omega)]
    have hp := mi_pm j6 e3 hm
    by_cases c4 : ph m = 4
    · rw [if_pos c4] at h
      refine br_f (by rw [(j7.1 m hm).2 c4]; decide) ?_
      exact xq_send (kd := 3) (fr := m) (to := 3) j2 e5 (by omega) (by decide) (by omega) (by decide) (fun _ => hm) (fun Q' hQ' => h Q' L D p g (cj_Z hj hQ'))
    · rw [if_neg c4] at hev h
      by_cases c0 : ph m = 0
      · rw [if_pos c0] at h
        rw [if_neg (by omega)] at hp
        obtain ⟨n, l1, l2, l3, l4⟩ := j4 m hm
        rw [c0] at l1 l2
        refine br_t ((j7.1 m hm).1 (by omega)) (And.intro (vp_in_nI (by omega) (by decide)) (br_f (fun q => absurd (hp.symm.trans q).symm (nI_ne0 e1 (by omega))) ?_))
        refine xp_prom (b1 := nI nm) (b4 := (nI pa, nI tr, nI td, cc)) (V := vv_X st vo he ha) hm e3 j3 l1 l2 (l3 c0) (fun L' n' a1 a2 a3 a4 a5 a6 => ?_)
        have hN : ∀ k, mi_N N H S C t (zt_un ph m 1) k = mi_N N H S C t ph k := by
          intro k
          apply mi_Nc
          by_cases q : k % 3 = m
          · rw [q, zt_un1]; omega
          · rw [zt_un0 q]
        have hH : ∀ k, mi_H H C t td ev (zt_un ph m 1) k = mi_H H C t td ev ph k := by
          intro k
          apply mi_Hc
          by_cases q : k % 3 = m
          · rw [q, zt_un1, c0]; rfl
          · rw [zt_un0 q]
        have hj' : cj_X nm t td A N H S C (st, vo, he, ha, de, ev, zt_un ph m 1, Z) Q L' D (upd p (t * 3 + m) (nI nm)) g := by
          refine cj_up hE hm hj a2 ⟨n', a1, lg_m_c a3 (Nat.le_refl _) (fun k _ _ => hN k), fun q => by omega, fun _ => ⟨fun i hi h1 h2 => ?_, fun k hK hk hq h1 h2 => ?_⟩⟩ (co_cong j3 (fun _ _ => rfl) (fun k _ => hN k) (fun k _ => hH k) (fun _ _ _ => rfl) (fun _ _ _ => rfl)) rfl (fun _ => by omega) (by decide)
          · obtain ⟨k, b1, b2, b3, b4, b5⟩ := a5 i hi h1 h2
            exact ⟨k, b1, b2, b3, mi_Hi b4, b5⟩
          · refine a6 k hK hk hq ?_ h2
            rw [mi_Ht h1, hq, c0]; rfl
        exact xq_send (V := vv_X st vo he ha) (kd := 2) (fr := m) (to := 3) j2 e5 (by omega) (by decide) (by omega) (by decide) (fun _ => hm) (fun Q' hQ' => h Q' L' D _ g (cj_Z hj' hQ'))
      · rw [if_neg c0] at hev h
        by_cases c1 : ph m = 1
        · rw [if_pos c1] at h
          rw [if_pos (Or.inl c1)] at hp
          refine br_t ((j7.1 m hm).1 (by omega)) (And.intro (vp_in_nI (by omega) (by decide)) (br_t hp ?_))
          exact xq_send (V := vv_X st vo he ha) (kd := 2) (fr := m) (to := 3) j2 e5 (by omega) (by decide) (by omega) (by decide) (fun _ => hm) (fun Q' hQ' => h Q' L D p g (cj_Z hj hQ'))
        · rw [if_neg c1] at hev
          exact absurd hev (Nat.lt_irrefl 9)
theorem xm_com2 {post : SX → Prop} (hE : en_v nm t pa tr td A H) (hj : cj_X nm t td A N H S C (st, vo, he, ha, de, ev, ph, Z) Q L D p g) (hst : st ≠ 0) {m : Nat} (hm : m < 3) (hse : Z.2.1 < 50000)
    (hev : (cs_com2 pa tr td m (st, vo, he, ha, de, ev, ph, Z)).2.2.2.2.2.1 < 9)
    (h : ∀ Q' L' D' p' g', cj_X nm t td A N H S C (cs_com2 pa tr td m (st, vo, he, ha, de, ev, ph, Z)) Q' L' D' p' g' → post (mk_X (bb_X nm t pa tr td cc) (vc_X (cs_com2 pa tr td m (st, vo, he, ha, de, ev, ph, Z))) Q' L' D' p' g')) :
    wX_hearCommit_66 post (nI m) D.1 (vv_X st vo he ha).1 (vv_X st vo he ha).2.1 (vv_X st vo he ha).2.2.1 (bb_X nm t pa tr td cc).1 (bb_X nm t pa tr td cc).2.1 (bb_X nm t pa tr td cc).2.2.1 (bb_X nm t pa tr td cc).2.2.2.1 (bb_X nm t pa tr td cc).2.2.2.2.1 (bb_X nm t pa tr td cc).2.2.2.2.2.1 (vv_X st vo he ha).2.2.2 (bb_X nm t pa tr td cc).2.2.2.2.2.2 Q.1 Q.2.1 Q.2.2.1 Q.2.2.2.1 L.1 L.2.1 L.2.2.1 L.2.2.2.1 L.2.2.2.2.1 L.2.2.2.2.2 D.2.1 D.2.2.1 D.2.2.2.1 D.2.2.2.2 p g Q.2.2.2.2.1 Q.2.2.2.2.2.1 Q.2.2.2.2.2.2.1 Q.2.2.2.2.2.2.2 := by
  obtain ⟨e1, e2, e3, e4, e5, e6, e7, e8, e9, e10⟩ := id hE
  obtain ⟨j1, j2, j3, j4, j5, j6, j7⟩ := id hj
  dsimp only at j1 j2 j3 j4 j5 j6 j7
  unfold wX_hearCommit_66
  refine xq_str (st := st) (vo := vo) (he := he) (w := 5) (by decide) hm e5 e6 j1.2.2.2.1 (fun z1 z2 z3 => ?_) (fun z => ?_)
  · have ec : cs_com2 pa tr td m (st, vo, he, ha, de, ev, ph, Z) = (st, vo, he, 1, de, cs_bev ev ph m, cs_bph pa ph m, Z) := if_pos ⟨z1, z2, z3⟩
    rw [ec] at hev h
    exact br_f (by decide) (xm_hit hE hj hst z3 hev (fun r D' p' g' hj' => h Q L D' p' g' hj'))
  · have ec : cs_com2 pa tr td m (st, vo, he, ha, de, ev, ph, Z) = (st, vo, he, ha, de, ev, ph, cq_send tr 6 m 3 Z) := if_neg z
    rw [ec] at hev h
    exact br_t rfl (xq_send (V := vv_X st vo he ha) (kd := 6) (fr := m) (to := 3) j2 e5 (by omega) (by decide) (by omega) (by decide) (fun _ => hm) (fun Q' hQ' => h Q' L D p g (cj_Z hj hQ')))
theorem xm_com {post : SX → Prop} (hE : en_v nm t pa tr td A H) (hj : cj_X nm t td A N H S C (st, vo, he, ha, de, ev, ph, Z) Q L D p g) (hst : st ≠ 0) {m : Nat} (hm : m < 3) (hse : Z.2.1 < 50000)
    (hev : (cs_com pa tr td m (st, vo, he, ha, de, ev, ph, Z)).2.2.2.2.2.1 < 9)
    (h : ∀ Q' L' D' p' g', cj_X nm t td A N H S C (cs_com pa tr td m (st, vo, he, ha, de, ev, ph, Z)) Q' L' D' p' g' → post (mk_X (bb_X nm t pa tr td cc) (vc_X (cs_com pa tr td m (st, vo, he, ha, de, ev, ph, Z))) Q' L' D' p' g')) :
    wpX_hearCommit post (mk_X (bb_X nm t pa tr td cc) (vv_X st vo he ha) Q L D p g) (nI m) := by
  obtain ⟨e1, e2, e3, e4, e5, e6, e7, e8, e9, e10⟩ := id hE
  obtain ⟨j1, j2, j3, j4, j5, j6, j7⟩ := id hj
  dsimp only at j1 j2 j3 j4 j5 j6 j7
  unfold wpX_hearCommit
  refine xq_str (w := 4) (by decide) hm e5 e6 j1.2.2.2.1 (fun z1 z2 z3 => ?_) (fun z => ?_)
  · have ec : cs_com pa tr td m (st, vo, he, ha, de, ev, ph, Z) = (st, vo, he, 1, de, cs_bev ev ph m, cs_bph pa ph m, Z) := if_pos ⟨z1, z2, z3⟩
    rw [ec] at hev h
    exact br_f (by decide) (xm_hit hE hj hst z3 hev (fun r D' p' g' hj' => h Q L D' p' g' hj'))
  · have ec : cs_com pa tr td m (st, vo, he, ha, de, ev, ph, Z) = cs_com2 pa tr td m (st, vo, he, ha, de, ev, if ph m = 1 ∨ ph m = 2 then zt_un ph m 3 else ph, Z) := if_neg z
    rw [ec] at hev h
    have hp := mi_pm j6 e3 hm
    have e : p (nI t * 3 + nI m).toNatClampNeg = p (t * 3 + m) := by rw [zi_3, zt_cl (by omega)]
    refine br_t rfl (And.intro (pk_in (t * 3 + m) 12 (by omega) (zi_3 t m)) ?_)
    by_cases c : ph m = 1 ∨ ph m = 2
    · rw [if_pos c] at hev h hp
      refine br_t (e.trans hp) ?_
      obtain ⟨n, l1, l2, l3, l4⟩ := j4 m hm
      obtain ⟨w1, w2⟩ := l4 c
      have hn : n ≤ 45 := by
        have : mi_b (ph m) = 45 := by rcases c with q | q <;> rw [q] <;> rfl
        omega
      have l2' : lg_m L m n nm (mi_N N H S C t ph) (nI nm) := by
        have : mi_o nm (ph m) = nI nm := if_pos c
        rw [this] at l2; exact l2
      have ld := lg_done l2'
      have hN : ∀ k, k < 12 → mi_N N H S C t (zt_un ph m 3) k = lg_ap L (m * 64) (nI nm) (mi_N N H S C t ph) n k := fun k hk => by
        rw [mi_done, pw_apn w1 w2 _ hk]
      refine xl_log (V := vv_X st vo he ha) (n := n) (kd := 3) (ky := 0) (by omega) (by omega) l2'.1 (by decide) (by decide) (nI nm) 0 ?_
      refine xl_ap (B := bb_X nm t pa tr td cc) (V := vv_X st vo he ha) (L := lg_A L m n 3 (nI nm) 0 0) (D := D) (n := n + 1) (by omega) (by omega) ld.1 ld.2.1 (nI nm) ?_
      have hC1 : co_re (mi_A A H t td ev) (mi_N N H S C t (zt_un ph m 3)) (mi_H H C t td ev ph) S C (D.1, lg_ap (lg_A L m n 3 (nI nm) 0 0) (m * 64) (nI nm) D.2.1 (n + 1), D.2.2) := by
        obtain ⟨c1, c2, c3, c4, c5, c6⟩ := j3
        refine ⟨c1, fun k hk => ?_, c3, c4, c5, c6⟩
        show lg_ap (lg_A L m n 3 (nI nm) 0 0) (m * 64) (nI nm) D.2.1 (n + 1) k = _
        rw [lg_A_ap _ (fun q => absurd q.1 (by decide)), hN k hk]
        exact lg_ap_pt (c2 k hk) n
      refine xb_rel (B := bb_X nm t pa tr td cc) (V := vv_X st vo he ha) (L := lg_A L m n 3 (nI nm) 0 0) e3 hm hC1 (fun D2 h2 => ?_)
      have hj' : cj_X nm t td A N H S C (st, vo, he, ha, de, ev, zt_un ph m 3, Z) Q (lg_A L m n 3 (nI nm) 0 0) D2 (upd p (t * 3 + m) 0) g := by
        refine cj_up hE hm hj (lg_fr_A L m n 3 (nI nm) 0 0 (by omega)) ⟨n + 1, by show n + 1 ≤ 46; omega, lg_m_c ld (Nat.le_refl _) (fun k hk _ => hN k hk), fun q => by omega, fun q => by omega⟩ (co_cong h2 (fun _ _ => rfl) (fun _ _ => rfl) (fun k _ => mi_rel (by decide) k) (fun _ _ _ => rfl) (fun _ _ _ => rfl)) rfl (fun q => by omega) (by decide)
      exact xm_com2 hE hj' hst hm hse hev h
    · rw [if_neg c] at hev h hp
      refine br_f (fun q => absurd ((e.trans hp).symm.trans q).symm (nI_ne0 e1 (by omega))) ?_
      exact xm_com2 hE hj hst hm hse hev h
theorem xm_ref {post : SX → Prop} (hE : en_v nm t pa tr td A H) (hj : cj_X nm t td A N H S C (st, vo, he, ha, de, ev, ph, Z) Q L D p g) {m : Nat} (hm : m < 3) (hse : Z.2.1 < 50000)
    (hev : (cs_ref tr m (st, vo, he, ha, de, ev, ph, Z)).2.2.2.2.2.1 < 9)
    (h : ∀ Q' L' D' p' g', cj_X nm t td A N H S C (cs_ref tr m (st, vo, he, ha, de, ev, ph, Z)) Q' L' D' p' g' → post (mk_X (bb_X nm t pa tr td cc) (vc_X (cs_ref tr m (st, vo, he, ha, de, ev, ph, Z))) Q' L' D' p' g')) :
    wpX_hearRefuse post (mk_X (bb_X nm t pa tr td cc) (vv_X st vo he ha) Q L D p g) (nI m) := by
  obtain ⟨e1, e2, e3, e4, e5, e6, e7, e8, e9, e10⟩ := id hE
  obtain ⟨j1, j2, j3, j4, j5, j6, j7⟩ := id hj
  dsimp only at j1 j2 j3 j4 j5 j6 j7
  have n3 : ¬ ph m = 3 := by
    intro q
    have ec : cs_ref tr m (st, vo, he, ha, de, ev, ph, Z) = (st, vo, he, ha, de, 9, ph, Z) := if_pos q
    rw [ec] at hev
    exact absurd hev (Nat.lt_irrefl 9)
  have ec : cs_ref tr m (st, vo, he, ha, de, ev, ph, Z) = (st, vo, he, ha, de, ev, zt_un ph m 5, cq_send tr 6 m 3 Z) := if_neg n3
  rw [ec] at h
  have hN : ∀ k, mi_N N H S C t (zt_un ph m 5) k = mi_N N H S C t ph k := by
    intro k
    apply mi_Nc
    by_cases q : k % 3 = m
    · rw [q, zt_un1]; omega
    · rw [zt_un0 q]
  have hp := mi_pm j6 e3 hm
  have e : p (nI t * 3 + nI m).toNatClampNeg = p (t * 3 + m) := by rw [zi_3, zt_cl (by omega)]
  obtain ⟨n, l1, l2, l3, l4⟩ := j4 m hm
  have go : ∀ L', lg_fr m L L' → mi_l nm t H S C L' m 5 (mi_N N H S C t (zt_un ph m 5)) → wX_hearRefuse_32 post (nI m) D.1 (vv_X st vo he ha).1 (vv_X st vo he ha).2.1 (vv_X st vo he ha).2.2.1 (bb_X nm t pa tr td cc).1 (bb_X nm t pa tr td cc).2.1 (bb_X nm t pa tr td cc).2.2.1 (bb_X nm t pa tr td cc).2.2.2.1 (bb_X nm t pa tr td cc).2.2.2.2.1 (bb_X nm t pa tr td cc).2.2.2.2.2.1 (vv_X st vo he ha).2.2.2 (bb_X nm t pa tr td cc).2.2.2.2.2.2 Q.1 Q.2.1 Q.2.2.1 Q.2.2.2.1 L'.1 L'.2.1 L'.2.2.1 L'.2.2.2.1 L'.2.2.2.2.1 L'.2.2.2.2.2 D.2.1 D.2.2.1 D.2.2.2.1 D.2.2.2.2 p g Q.2.2.2.2.1 Q.2.2.2.2.2.1 Q.2.2.2.2.2.2.1 Q.2.2.2.2.2.2.2 := by
    intro L' hf hl
    unfold wX_hearRefuse_32
    refine xb_rel (B := bb_X nm t pa tr td cc) (V := vv_X st vo he ha) (L := L') e3 hm j3 (fun D2 h2 => ?_)
    have hj' : cj_X nm t td A N H S C (st, vo, he, ha, de, ev, zt_un ph m 5, Z) Q L' D2 (upd p (t * 3 + m) 0) g :=
      cj_up hE hm hj hf hl (co_cong h2 (fun _ _ => rfl) (fun k _ => hN k) (fun k _ => mi_rel (by decide) k) (fun _ _ _ => rfl) (fun _ _ _ => rfl)) rfl (fun q => by omega) (by decide)
    exact xq_send (V := vv_X st vo he ha) (kd := 6) (fr := m) (to := 3) j2 e5 (by omega) (by decide) (by omega) (by decide) (fun _ => hm) (fun Q' hQ' => h Q' L' D2 _ g (cj_Z hj' hQ'))
  refine And.intro (pk_in (t * 3 + m) 12 (by omega) (zi_3 t m)) ?_
  by_cases c : ph m = 1 ∨ ph m = 2
  · rw [if_pos c] at hp
    have hn : n ≤ 45 := by
      have : mi_b (ph m) = 45 := by rcases c with q | q <;> rw [q] <;> rfl
      omega
    refine br_t (e.trans hp) (xl_log (V := vv_X st vo he ha) (n := n) (kd := 4) (ky := 0) (by omega) (by omega) l2.1 (by decide) (by decide) (nI nm) 0 ?_)
    exact go _ (lg_fr_A L m n 4 (nI nm) 0 0 (by omega)) ⟨n + 1, by show n + 1 ≤ 46; omega, lg_m_c (lg_undo l2) (Nat.le_refl _) (fun k _ _ => hN k), fun q => by omega, fun q => by omega⟩
  · rw [if_neg c] at hp
    refine br_f (fun q => absurd ((e.trans hp).symm.trans q).symm (nI_ne0 e1 (by omega))) ?_
    have ho : mi_o nm (ph m) = 0 := if_neg c
    rw [ho] at l2
    exact go L (lg_fr_rf m L) ⟨n, by have := mi_b46 (ph m); show n ≤ 46; omega, lg_m_c l2 (Nat.le_refl _) (fun k _ _ => hN k), fun q => by omega, fun q => by omega⟩
end
end
section
/-! ===== the leader; delivering; the rounds ===== -/
section
variable {nm t pa tr td : Nat} {cc : Int32} {A : Nat → Bool} {N : Nat → Int32} {H : Nat → Nat} {S : Nat → Int32} {C : Nat → Bool}
variable {st vo he ha de ev : Nat} {ph : Nat → Nat} {Z : ty_Z}
variable {Q : ty_Q} {L : ty_L} {D : ty_D} {p g : Nat → Int32}
theorem xm_rem {post : SX → Prop} (hE : en_v nm t pa tr td A H) (hj : cj_X nm t td A N H S C (st, vo, he, ha, de, ev, ph, Z) Q L D p g) (hse : Z.2.1 < 50000)
    (h : ∀ Q', cj_X nm t td A N H S C (cs_rem pa tr (st, vo, he, ha, de, ev, ph, Z)) Q' L D p g → post (mk_X (bb_X nm t pa tr td cc) (vv_X st vo he ha) Q' L D p g)) :
    wpX_remind post (mk_X (bb_X nm t pa tr td cc) (vv_X st vo he ha) Q L D p g) := by
  obtain ⟨e1, e2, e3, e4, e5, e6, e7, e8, e9, e10⟩ := id hE
  obtain ⟨j1, j2, j3, j4, j5, j6, j7⟩ := id hj
  dsimp only at j1 j2 j3 j4 j5 j6 j7
  exact xr_remind j2 e5 hse e3 e1 e2 (fun m hm => mi_pm j6 e3 hm) e4 j1.2.1 j1.2.2.1 j1.1.1 (fun Q' hQ' => h Q' (cj_Z hj hQ'))
theorem xm_64 {post : SX → Prop} (hE : en_v nm t pa tr td A H) (hj : cj_X nm t td A N H S C (st, vo, he, ha, de, ev, ph, Z) Q L D p g) (hse : Z.2.1 < 50000) (hev : (cs_asi pa tr td (st, vo, he, ha, de, ev, ph, Z)).2.2.2.2.2.1 < 9)
    (h : ∀ Q' D' p' g', cj_X nm t td A N H S C (cs_rem pa tr (cs_asi pa tr td (st, vo, he, ha, de, ev, ph, Z))) Q' L D' p' g' → post (mk_X (bb_X nm t pa tr td cc) (vc_X (cs_rem pa tr (cs_asi pa tr td (st, vo, he, ha, de, ev, ph, Z)))) Q' L D' p' g')) :
    wX_decideIfReady_64 post D.1 (vv_X st vo he ha).1 (vv_X st vo he ha).2.1 (vv_X st vo he ha).2.2.1 (bb_X nm t pa tr td cc).1 (bb_X nm t pa tr td cc).2.1 (bb_X nm t pa tr td cc).2.2.1 (bb_X nm t pa tr td cc).2.2.2.1 (bb_X nm t pa tr td cc).2.2.2.2.1 (bb_X nm t pa tr td cc).2.2.2.2.2.1 (vv_X st vo he ha).2.2.2 (bb_X nm t pa tr td cc).2.2.2.2.2.2 Q.1 Q.2.1 Q.2.2.1 Q.2.2.2.1 L.1 L.2.1 L.2.2.1 L.2.2.2.1 L.2.2.2.2.1 L.2.2.2.2.2 D.2.1 D.2.2.1 D.2.2.2.1 D.2.2.2.2 p g Q.2.2.2.2.1 Q.2.2.2.2.2.1 Q.2.2.2.2.2.2.1 Q.2.2.2.2.2.2.2 := by
  obtain ⟨e1, e2, e3, e4, e5, e6, e7, e8, e9, e10⟩ := id hE
  obtain ⟨j1, j2, j3, j4, j5, j6, j7⟩ := id hj
  dsimp only at j1 j2 j3 j4 j5 j6 j7
  have no : ¬ (pa.testBit td = false ∧ (tr = 4 ∨ tr = 5) ∧ ha = 0) → wX_decideIfReady_125 post D.1 (vv_X st vo he ha).1 (vv_X st vo he ha).2.1 (vv_X st vo he ha).2.2.1 (bb_X nm t pa tr td cc).1 (bb_X nm t pa tr td cc).2.1 (bb_X nm t pa tr td cc).2.2.1 (bb_X nm t pa tr td cc).2.2.2.1 (bb_X nm t pa tr td cc).2.2.2.2.1 (bb_X nm t pa tr td cc).2.2.2.2.2.1 (vv_X st vo he ha).2.2.2 (bb_X nm t pa tr td cc).2.2.2.2.2.2 Q.1 Q.2.1 Q.2.2.1 Q.2.2.2.1 L.1 L.2.1 L.2.2.1 L.2.2.2.1 L.2.2.2.2.1 L.2.2.2.2.2 D.2.1 D.2.2.1 D.2.2.2.1 D.2.2.2.2 p g Q.2.2.2.2.1 Q.2.2.2.2.2.1 Q.2.2.2.2.2.2.1 Q.2.2.2.2.2.2.2 := by
    intro c
    have ec : cs_asi pa tr td (st, vo, he, ha, de, ev, ph, Z) = (st, vo, he, ha, de, ev, ph, Z) := if_neg c
    rw [ec] at h
    unfold wX_decideIfReady_125
    exact xm_rem hE hj hse (fun Q' hQ' => h Q' D p g hQ')
  have n95 : ¬ (pa.testBit td = false ∧ (tr = 4 ∨ tr = 5) ∧ ha = 0) → wX_decideIfReady_95 post D.1 (vv_X st vo he ha).1 (vv_X st vo he ha).2.1 (vv_X st vo he ha).2.2.1 (bb_X nm t pa tr td cc).1 (bb_X nm t pa tr td cc).2.1 (bb_X nm t pa tr td cc).2.2.1 (bb_X nm t pa tr td cc).2.2.2.1 (bb_X nm t pa tr td cc).2.2.2.2.1 (bb_X nm t pa tr td cc).2.2.2.2.2.1 (vv_X st vo he ha).2.2.2 (bb_X nm t pa tr td cc).2.2.2.2.2.2 Q.1 Q.2.1 Q.2.2.1 Q.2.2.2.1 L.1 L.2.1 L.2.2.1 L.2.2.2.1 L.2.2.2.2.1 L.2.2.2.2.2 D.2.1 D.2.2.1 D.2.2.2.1 D.2.2.2.2 p g Q.2.2.2.2.1 Q.2.2.2.2.2.1 Q.2.2.2.2.2.2.1 Q.2.2.2.2.2.2.2 := fun c => by
    unfold wX_decideIfReady_95 wX_decideIfReady_96
    exact br_t rfl (no c)
  unfold wX_decideIfReady_64
  cases hb : pa.testBit td with
  | true => exact xq_part1 (V := vv_X st vo he ha) e4 e6 hb (br_f (by decide) (n95 (fun c => absurd (hb.symm.trans c.1) (by decide))))
  | false =>
    have y91 : tr = 4 ∨ tr = 5 → wX_decideIfReady_91 post D.1 (vv_X st vo he ha).1 (vv_X st vo he ha).2.1 (vv_X st vo he ha).2.2.1 (bb_X nm t pa tr td cc).1 (bb_X nm t pa tr td cc).2.1 (bb_X nm t pa tr td cc).2.2.1 (bb_X nm t pa tr td cc).2.2.2.1 (bb_X nm t pa tr td cc).2.2.2.2.1 (bb_X nm t pa tr td cc).2.2.2.2.2.1 (vv_X st vo he ha).2.2.2 (bb_X nm t pa tr td cc).2.2.2.2.2.2 Q.1 Q.2.1 Q.2.2.1 Q.2.2.2.1 L.1 L.2.1 L.2.2.1 L.2.2.2.1 L.2.2.2.2.1 L.2.2.2.2.2 D.2.1 D.2.2.1 D.2.2.2.1 D.2.2.2.2 p g Q.2.2.2.2.1 Q.2.2.2.2.2.1 Q.2.2.2.2.2.2.1 Q.2.2.2.2.2.2.2 := by
      intro c
      unfold wX_decideIfReady_91 wX_decideIfReady_96
      refine br_f (by decide) (xq_str (st := st) (vo := vo) (he := he) (w := tr) (m := td) e5 e6 e5 e6 j1.2.2.2.1 (fun z1 z2 z3 => ?_) (fun z => ?_))
      · have ec : cs_asi pa tr td (st, vo, he, ha, de, ev, ph, Z) = (st, vo, he, 1, de, cs_bev ev ph td, cs_bph pa ph td, Z) := if_pos ⟨hb, c, z2⟩
        rw [ec] at h hev
        refine br_f (by decide) (xm_hit hE hj j1.1.2.1 rfl hev (fun r D' p' g' hj' => ?_))
        show wX_decideIfReady_125 post D'.1 (vv_X st vo he 1).1 (vv_X st vo he 1).2.1 (vv_X st vo he 1).2.2.1 (bb_X nm t pa tr td cc).1 (bb_X nm t pa tr td cc).2.1 (bb_X nm t pa tr td cc).2.2.1 (bb_X nm t pa tr td cc).2.2.2.1 (bb_X nm t pa tr td cc).2.2.2.2.1 (bb_X nm t pa tr td cc).2.2.2.2.2.1 (vv_X st vo he 1).2.2.2 (bb_X nm t pa tr td cc).2.2.2.2.2.2 Q.1 Q.2.1 Q.2.2.1 Q.2.2.2.1 L.1 L.2.1 L.2.2.1 L.2.2.2.1 L.2.2.2.2.1 L.2.2.2.2.2 D'.2.1 D'.2.2.1 D'.2.2.2.1 D'.2.2.2.2 p' g' Q.2.2.2.2.1 Q.2.2.2.2.2.1 Q.2.2.2.2.2.2.1 Q.2.2.2.2.2.2.2
        unfold wX_decideIfReady_125
        exact xm_rem hE hj' hse (fun Q' hQ' => h Q' D' p' g' hQ')
      · exact br_t rfl (no (fun q => z ⟨rfl, q.2.2, rfl⟩))
    refine xq_part0 (V := vv_X st vo he ha) e4 e6 hb (br_t rfl ?_)
    refine pk_eq (x := nI tr) (y := 4) tr 4 (fun z => y91 (Or.inl z)) (fun z => ?_) rfl rfl
    exact pk_eq (x := nI tr) (y := 5) tr 5 (fun y => y91 (Or.inr y)) (fun y => n95 (fun q => by omega)) rfl rfl
theorem cs_lev0 {ev : Nat} (h : cs_lev ev < 9) : ev = 0 ∧ cs_lev ev = 2 := by
  by_cases c : ev = 0
  · exact ⟨c, if_pos c⟩
  · have : cs_lev ev = 9 := if_neg c
    omega
theorem xm_dec {post : SX → Prop} (hE : en_v nm t pa tr td A H) (hj : cj_X nm t td A N H S C (1, vo, he, ha, de, ev, ph, Z) Q L D p g) (hse : Z.2.1 < 50000) (hev : (cs_dec pa tr td (1, vo, he, ha, de, ev, ph, Z)).2.2.2.2.2.1 < 9)
    (h : ∀ Q' L' D' p' g', cj_X nm t td A N H S C (cs_dec pa tr td (1, vo, he, ha, de, ev, ph, Z)) Q' L' D' p' g' → post (mk_X (bb_X nm t pa tr td cc) (vc_X (cs_dec pa tr td (1, vo, he, ha, de, ev, ph, Z))) Q' L' D' p' g')) :
    wpX_decideIfReady post (mk_X (bb_X nm t pa tr td cc) (vv_X 1 vo he ha) Q L D p g) := by
  obtain ⟨e1, e2, e3, e4, e5, e6, e7, e8, e9, e10⟩ := id hE
  obtain ⟨j1, j2, j3, j4, j5, j6, j7⟩ := id hj
  dsimp only at j1 j2 j3 j4 j5 j6 j7
  have hde : de = 0 := j1.1.2.2 rfl
  subst hde
  unfold wpX_decideIfReady
  refine pk_eq (x := nI vo) (y := nI pa) vo pa (fun z => ?_) (fun z => ?_) rfl rfl
  · have ec : cs_dec pa tr td (1, vo, he, ha, 0, ev, ph, Z) = if tr = 2 ∧ ha = 0 then (if 0 = 1 then 2 else 3, 0, 0, 1, 0, cs_lev ev, ph, Z) else cs_rem pa tr (cs_asi pa tr td (cs_aft tr (2, vo, he, ha, 1, ev, ph, Z))) := if_pos z
    rw [ec] at hev h
    refine xq_str (w := 2) (m := td) (by decide) e6 e5 e6 j1.2.2.2.1 (fun z1 z2 _ => ?_) (fun y => ?_)
    · rw [if_pos ⟨z1, z2⟩] at hev h
      obtain ⟨v0, v2⟩ := cs_lev0 hev
      rw [v2] at h
      subst v0
      exact br_f (by decide) (xm_bl hE (cj_V hj j1.1 j1.2.1 j1.2.2.1 (by decide)) (by decide) (fun r D' p' hj' => h Q L D' p' g hj'))
    · rw [if_neg (fun q => y ⟨q.1, q.2, rfl⟩)] at hev h
      obtain ⟨n, d1, d2, d3⟩ := j5
      refine br_t rfl (xl_log (V := vv_X 1 vo he ha) (m := 3) (n := n) (kd := 5) (ky := 0) (by decide) (by omega) d2.1 (by decide) (by decide) (nI nm) 0 ?_)
      have hj1 : cj_X nm t td A N H S C (2, vo, he, ha, 1, ev, ph, Z) Q (lg_A L 3 n 5 (nI nm) 0 0) D p g := by
        refine ⟨⟨⟨by show 2 < 4; omega, by show 2 ≠ 0; omega, fun q => absurd q (show ¬ (2 : Nat) = 1 by decide)⟩, j1.2.1, j1.2.2.1, j1.2.2.2.1, Nat.lt_succ_self 1⟩, j2, j3, fun m hm => mi_ll (j4 m hm) hm (by omega), ⟨n + 1, by dsimp only; omega, ⟨by show upd L.2.1 3 (nI (n + 1)) 3 = _; exact pk_us, fun i hi => ?_⟩, ⟨fun _ => rfl, fun _ => ⟨n, by omega, (lg_A_at L 3 n 5 (nI nm) 0 0).1, (lg_A_at L 3 n 5 (nI nm) 0 0).2.1⟩⟩⟩, j6, j7⟩
        rcases Nat.lt_or_ge i n with w | w
        · rw [(lg_A_eq L 3 n 5 (nI nm) 0 0 i w).2.1]; exact d2.2 i w
        · have : i = n := by omega
          subst this
          exact ⟨nm, Nat.le_refl _, (lg_A_at L 3 i 5 (nI nm) 0 0).2.1⟩
      refine xq_str (st := 2) (vo := vo) (he := he) (w := 3) (m := td) (by decide) e6 e5 e6 j1.2.2.2.1 (fun z1 z2 _ => ?_) (fun x => ?_)
      · have ea : cs_aft tr (2, vo, he, ha, 1, ev, ph, Z) = (if 1 = 1 then 2 else 3, 0, 0, 1, 1, cs_lev ev, ph, Z) := if_pos ⟨z1, z2⟩
        rw [ea] at hev h
        have es : cs_asi pa tr td (if 1 = 1 then 2 else 3, 0, 0, 1, 1, cs_lev ev, ph, Z) = (if 1 = 1 then 2 else 3, 0, 0, 1, 1, cs_lev ev, ph, Z) := if_neg (fun q => by omega)
        have hev' : cs_lev ev < 9 := by rw [es] at hev; exact hev
        obtain ⟨v0, v2⟩ := cs_lev0 hev'
        rw [v2] at h hev es
        subst v0
        refine br_f (by decide) (xm_bl hE (cj_V hj1 hj1.1.1 j1.2.1 j1.2.2.1 (by decide)) (by decide) (fun r D' p' hj' => ?_))
        exact xm_64 hE hj' hse (by rw [es]; show 2 < 9; omega) (fun Q' D'' p'' g'' hj'' => h Q' _ D'' p'' g'' hj'')
      · have ea : cs_aft tr (2, vo, he, ha, 1, ev, ph, Z) = (2, vo, he, ha, 1, ev, ph, Z) := if_neg (fun q => x ⟨q.1, q.2, rfl⟩)
        rw [ea] at hev h
        exact br_t rfl (xm_64 hE hj1 hse hev (fun Q' D'' p'' g'' hj'' => h Q' _ D'' p'' g'' hj''))
  · have ec : cs_dec pa tr td (1, vo, he, ha, 0, ev, ph, Z) = (1, vo, he, ha, 0, ev, ph, Z) := if_neg z
    rw [ec] at h
    exact h Q L D p g hj
end
end
section
/-! ===== what the leader hears; delivering; the rounds ===== -/
section
variable {nm t pa tr td : Nat} {cc : Int32} {A : Nat → Bool} {N : Nat → Int32} {H : Nat → Nat} {S : Nat → Int32} {C : Nat → Bool}
variable {st vo he ha de ev : Nat} {ph : Nat → Nat} {Z : ty_Z}
variable {Q : ty_Q} {L : ty_L} {D : ty_D} {p g : Nat → Int32}
theorem xm_led {post : SX → Prop} (hE : en_v nm t pa tr td A H) (hj : cj_X nm t td A N H S C (st, vo, he, ha, de, ev, ph, Z) Q L D p g) (hse : Z.2.1 < 50000) {kd fr : Nat} (hkd : kd < 8) (hfr : fr < 3)
    (hev : (cs_led pa tr td kd fr (st, vo, he, ha, de, ev, ph, Z)).2.2.2.2.2.1 < 9)
    (h : ∀ Q' L' D' p' g', cj_X nm t td A N H S C (cs_led pa tr td kd fr (st, vo, he, ha, de, ev, ph, Z)) Q' L' D' p' g' → post (mk_X (bb_X nm t pa tr td cc) (vc_X (cs_led pa tr td kd fr (st, vo, he, ha, de, ev, ph, Z))) Q' L' D' p' g')) :
    wpX_hearAsLeader post (mk_X (bb_X nm t pa tr td cc) (vv_X st vo he ha) Q L D p g) (nI kd) (nI fr) := by
  obtain ⟨e1, e2, e3, e4, e5, e6, e7, e8, e9, e10⟩ := id hE
  obtain ⟨j1, j2, j3, j4, j5, j6, j7⟩ := id hj
  dsimp only at j1 j2 j3 j4 j5 j6 j7
  have hst4 : st < 4 := j1.1.1
  have k90 : ¬ (kd = 2 ∧ st = 1) → ¬ (kd = 3 ∧ st = 1) → ¬ (kd = 6 ∧ (st = 2 ∨ st = 3)) → wX_hearAsLeader_90 post (nI kd) (nI fr) D.1 (vv_X st vo he ha).1 (vv_X st vo he ha).2.1 (vv_X st vo he ha).2.2.1 (bb_X nm t pa tr td cc).1 (bb_X nm t pa tr td cc).2.1 (bb_X nm t pa tr td cc).2.2.1 (bb_X nm t pa tr td cc).2.2.2.1 (bb_X nm t pa tr td cc).2.2.2.2.1 (bb_X nm t pa tr td cc).2.2.2.2.2.1 (vv_X st vo he ha).2.2.2 (bb_X nm t pa tr td cc).2.2.2.2.2.2 Q.1 Q.2.1 Q.2.2.1 Q.2.2.2.1 L.1 L.2.1 L.2.2.1 L.2.2.2.1 L.2.2.2.2.1 L.2.2.2.2.2 D.2.1 D.2.2.1 D.2.2.2.1 D.2.2.2.2 p g Q.2.2.2.2.1 Q.2.2.2.2.2.1 Q.2.2.2.2.2.2.1 Q.2.2.2.2.2.2.2 := by
    intro c2 c3 c6
    have ec : cs_led pa tr td kd fr (st, vo, he, ha, de, ev, ph, Z) = if kd = 7 then (st, vo, he, ha, de, ev, ph, cq_send tr (if de = 1 then 4 else 5) 3 fr Z) else (st, vo, he, ha, de, ev, ph, Z) := (if_neg c2).trans ((if_neg c3).trans (if_neg c6))
    rw [ec] at h
    unfold wX_hearAsLeader_90
    refine pk_eq (x := nI kd) (y := 7) kd 7 (fun z => ?_) (fun z => ?_) rfl rfl
    · rw [if_pos z] at h
      obtain ⟨n, d1, d2, d3⟩ := j5
      refine xl_isl (B := bb_X nm t pa tr td cc) (V := vv_X st vo he ha) (m := 3) (n := n) (by decide) (by omega) d2.1 5 (nI nm) (fun q => br_f (by decide) ?_) (fun q => br_t rfl ?_)
      · rw [if_pos (d3.mp q)] at h
        unfold wX_hearAsLeader_117
        exact xq_send (V := vv_X st vo he ha) (kd := 4) (fr := 3) (to := fr) j2 e5 (by omega) (by decide) (by decide) (by omega) (fun w => by omega) (fun Q' hQ' => h Q' L D p g (cj_Z hj hQ'))
      · rw [if_neg (fun w => q (d3.mpr w))] at h
        unfold wX_hearAsLeader_117
        exact xq_send (V := vv_X st vo he ha) (kd := 5) (fr := 3) (to := fr) j2 e5 (by omega) (by decide) (by decide) (by omega) (fun w => by omega) (fun Q' hQ' => h Q' L D p g (cj_Z hj hQ'))
    · rw [if_neg z] at h
      exact h Q L D p g hj
  have k53 : ¬ (kd = 2 ∧ st = 1) → ¬ (kd = 3 ∧ st = 1) → wX_hearAsLeader_53 post (nI kd) (nI fr) D.1 (vv_X st vo he ha).1 (vv_X st vo he ha).2.1 (vv_X st vo he ha).2.2.1 (bb_X nm t pa tr td cc).1 (bb_X nm t pa tr td cc).2.1 (bb_X nm t pa tr td cc).2.2.1 (bb_X nm t pa tr td cc).2.2.2.1 (bb_X nm t pa tr td cc).2.2.2.2.1 (bb_X nm t pa tr td cc).2.2.2.2.2.1 (vv_X st vo he ha).2.2.2 (bb_X nm t pa tr td cc).2.2.2.2.2.2 Q.1 Q.2.1 Q.2.2.1 Q.2.2.2.1 L.1 L.2.1 L.2.2.1 L.2.2.2.1 L.2.2.2.2.1 L.2.2.2.2.2 D.2.1 D.2.2.1 D.2.2.2.1 D.2.2.2.2 p g Q.2.2.2.2.1 Q.2.2.2.2.2.1 Q.2.2.2.2.2.2.1 Q.2.2.2.2.2.2.2 := by
    intro c2 c3
    have k75 : kd = 6 ∧ (st = 2 ∨ st = 3) → wX_hearAsLeader_75 post (nI fr) D.1 (vv_X st vo he ha).1 (vv_X st vo he ha).2.1 (vv_X st vo he ha).2.2.1 (bb_X nm t pa tr td cc).1 (bb_X nm t pa tr td cc).2.1 (bb_X nm t pa tr td cc).2.2.1 (bb_X nm t pa tr td cc).2.2.2.1 (bb_X nm t pa tr td cc).2.2.2.2.1 (bb_X nm t pa tr td cc).2.2.2.2.2.1 (vv_X st vo he ha).2.2.2 (bb_X nm t pa tr td cc).2.2.2.2.2.2 Q.1 Q.2.1 Q.2.2.1 Q.2.2.2.1 L.1 L.2.1 L.2.2.1 L.2.2.2.1 L.2.2.2.2.1 L.2.2.2.2.2 D.2.1 D.2.2.1 D.2.2.2.1 D.2.2.2.2 p g Q.2.2.2.2.1 Q.2.2.2.2.2.1 Q.2.2.2.2.2.2.1 Q.2.2.2.2.2.2.2 := by
      intro c6
      have ec : cs_led pa tr td kd fr (st, vo, he, ha, de, ev, ph, Z) = (st, vo, he ||| 2 ^ fr, ha, de, ev, ph, Z) := (if_neg c2).trans ((if_neg c3).trans (if_pos c6))
      rw [ec] at h
      unfold wX_hearAsLeader_75
      obtain ⟨o1, o2⟩ := zm_o he j1.2.2.1 fr hfr
      exact nm_r (e' := nI (he ||| 2 ^ fr)) o1 (h Q L D p g (cj_V hj j1.1 j1.2.1 o2 j1.2.2.2.1))
    unfold wX_hearAsLeader_53
    refine pk_eq (x := nI kd) (y := 6) kd 6 (fun z => ?_) (fun z => k90 c2 c3 (fun q => z q.1)) rfl rfl
    refine pk_eq (x := nI st) (y := 2) st 2 (fun y => k75 ⟨z, Or.inl y⟩) (fun y => ?_) rfl rfl
    exact pk_eq (x := nI st) (y := 3) st 3 (fun x => k75 ⟨z, Or.inr x⟩) (fun x => k90 c2 c3 (fun q => by omega)) rfl rfl
  have k32 : ¬ (kd = 2 ∧ st = 1) → wX_hearAsLeader_32 post (nI kd) (nI fr) D.1 (vv_X st vo he ha).1 (vv_X st vo he ha).2.1 (vv_X st vo he ha).2.2.1 (bb_X nm t pa tr td cc).1 (bb_X nm t pa tr td cc).2.1 (bb_X nm t pa tr td cc).2.2.1 (bb_X nm t pa tr td cc).2.2.2.1 (bb_X nm t pa tr td cc).2.2.2.2.1 (bb_X nm t pa tr td cc).2.2.2.2.2.1 (vv_X st vo he ha).2.2.2 (bb_X nm t pa tr td cc).2.2.2.2.2.2 Q.1 Q.2.1 Q.2.2.1 Q.2.2.2.1 L.1 L.2.1 L.2.2.1 L.2.2.2.1 L.2.2.2.2.1 L.2.2.2.2.2 D.2.1 D.2.2.1 D.2.2.2.1 D.2.2.2.2 p g Q.2.2.2.2.1 Q.2.2.2.2.2.1 Q.2.2.2.2.2.2.1 Q.2.2.2.2.2.2.2 := by
    intro c2
    unfold wX_hearAsLeader_32
    refine pk_eq (x := nI kd) (y := 3) kd 3 (fun z => ?_) (fun z => k53 c2 (fun q => z q.1)) rfl rfl
    refine pk_eq (x := nI st) (y := 1) st 1 (fun y => ?_) (fun y => k53 c2 (fun q => y q.2)) rfl rfl
    have ec : cs_led pa tr td kd fr (st, vo, he, ha, de, ev, ph, Z) = (3, vo, he, ha, de, ev, ph, Z) := (if_neg c2).trans (if_pos ⟨z, y⟩)
    rw [ec] at h
    exact h Q L D p g (cj_V hj ⟨by omega, by omega, fun q => by omega⟩ j1.2.1 j1.2.2.1 j1.2.2.2.1)
  refine pk_eq (x := nI kd) (y := 2) kd 2 (fun z => ?_) (fun z => k32 (fun q => z q.1)) rfl rfl
  refine pk_eq (x := nI st) (y := 1) st 1 (fun y => ?_) (fun y => k32 (fun q => y q.2)) rfl rfl
  have ec : cs_led pa tr td kd fr (st, vo, he, ha, de, ev, ph, Z) = cs_dec pa tr td (st, vo ||| 2 ^ fr, he, ha, de, ev, ph, Z) := if_pos ⟨z, y⟩
  rw [ec] at h hev
  subst y
  obtain ⟨o1, o2⟩ := zm_o vo j1.2.1 fr hfr
  exact nm_r (e' := nI (vo ||| 2 ^ fr)) o1 (xm_dec hE (cj_V hj j1.1 o2 j1.2.2.1 j1.2.2.2.1) hse hev h)
theorem xm_mac {post : SX → Prop} (hE : en_v nm t pa tr td A H) (hj : cj_X nm t td A N H S C (st, vo, he, ha, de, ev, ph, Z) Q L D p g) (hse : Z.2.1 < 50000) {kd m : Nat} (hkd : kd < 8) (hm : m < 3)
    (hev : (cs_mac pa tr td kd m (st, vo, he, ha, de, ev, ph, Z)).2.2.2.2.2.1 < 9)
    (h : ∀ Q' L' D' p' g', cj_X nm t td A N H S C (cs_mac pa tr td kd m (st, vo, he, ha, de, ev, ph, Z)) Q' L' D' p' g' → post (mk_X (bb_X nm t pa tr td cc) (vc_X (cs_mac pa tr td kd m (st, vo, he, ha, de, ev, ph, Z))) Q' L' D' p' g')) :
    wpX_hearAsMachine post (mk_X (bb_X nm t pa tr td cc) (vv_X st vo he ha) Q L D p g) (nI kd) (nI m) := by
  have hst := hj.1.1.2.1
  refine pk_eq (x := nI kd) (y := 1) kd 1 (fun z => ?_) (fun z => ?_) rfl rfl
  · have ec : cs_mac pa tr td kd m (st, vo, he, ha, de, ev, ph, Z) = cs_pre pa tr td m (st, vo, he, ha, de, ev, ph, Z) := if_pos z
    rw [ec] at h hev
    exact xm_pre hE hj hst hm hse hev h
  · refine pk_eq (x := nI kd) (y := 4) kd 4 (fun y => ?_) (fun y => ?_) rfl rfl
    · have ec : cs_mac pa tr td kd m (st, vo, he, ha, de, ev, ph, Z) = cs_com pa tr td m (st, vo, he, ha, de, ev, ph, Z) := (if_neg z).trans (if_pos y)
      rw [ec] at h hev
      exact xm_com hE hj hst hm hse hev h
    · have ec : cs_mac pa tr td kd m (st, vo, he, ha, de, ev, ph, Z) = cs_ref tr m (st, vo, he, ha, de, ev, ph, Z) := (if_neg z).trans (if_neg y)
      rw [ec] at h hev
      exact xm_ref hE hj hm hse hev h
theorem xm_del {post : SX → Prop} (hE : en_v nm t pa tr td A H) {fi se lo kd fr to : Nat} {q : List (Nat × Nat × Nat)} (hj : cj_X nm t td A N H S C (st, vo, he, ha, de, ev, ph, fi, se, lo, (kd, fr, to) :: q) Q L D p g) (hse : se < 50000)
    (hev : (cs_del pa tr td (st, vo, he, ha, de, ev, ph, fi, se, lo, (kd, fr, to) :: q)).2.2.2.2.2.1 < 9)
    (h : ∀ Q' L' D' p' g', cj_X nm t td A N H S C (cs_del pa tr td (st, vo, he, ha, de, ev, ph, fi, se, lo, (kd, fr, to) :: q)) Q' L' D' p' g' → post (mk_X (bb_X nm t pa tr td cc) (vc_X (cs_del pa tr td (st, vo, he, ha, de, ev, ph, fi, se, lo, (kd, fr, to) :: q))) Q' L' D' p' g')) :
    wpX_deliver post (mk_X (bb_X nm t pa tr td cc) (vv_X st vo he ha) Q L D p g) := by
  obtain ⟨q1, q2, q3, q4, q5, q6, q7, q8⟩ := id hj.2.1
  dsimp only at q1 q2 q3 q4 q5 q6 q7 q8
  obtain ⟨m1, m2, m3, m4, m5, m6, m7, m8⟩ := q8 0 (kd, fr, to) rfl
  have efi : (fi + 0) % 64 = fi := by omega
  rw [efi] at m1 m2 m3 m4
  dsimp only at m1 m2 m3 m4 m5 m6 m7 m8
  have hl : ((kd, fr, to) :: q).length = q.length + 1 := rfl
  rw [hl] at q3 q4
  have hq' : qr_1 nm ((fi + 1) % 64, se, lo, q) (nI ((fi + 1) % 64), nI q.length, Q.2.2) := by
    refine ⟨rfl, by dsimp only; omega, rfl, by dsimp only; omega, q5, q6, q7, fun j x hx => ?_⟩
    have := q8 (j + 1) x hx
    have ei : ((fi + 1) % 64 + j) % 64 = (fi + (j + 1)) % 64 := by omega
    dsimp only
    rw [ei]
    exact this
  have hj' := cj_Z hj hq'
  have hv : vp_in Q.1 64 := by rw [q1]; exact vp_in_nI q2 (by decide)
  have hc : Q.1.toNatClampNeg = fi := zt_ci q1 (by omega)
  have ef : (Q.1 + 1) - (Q.1 + 1) / 64 * 64 = nI ((fi + 1) % 64) := by
    rw [q1, nI_1, show (64 : Int32) = nI 64 from rfl, pk_rem (by omega) (by decide) (by decide)]
  refine And.intro (by decide) (nm_r ef (nm_r (e' := nI q.length) (by show Q.2.1 - 1 = _; rw [q3, nI_pred]) (And.intro hv ?_)))
  rw [hc]
  refine br_t m4 (And.intro hv (nm_r (e' := nI fr) m2 (And.intro hv ?_)))
  have ec : cs_del pa tr td (st, vo, he, ha, de, ev, ph, fi, se, lo, (kd, fr, to) :: q) = if to = 3 then cs_led pa tr td kd fr (st, vo, he, ha, de, ev, ph, (fi + 1) % 64, se, lo, q) else cs_mac pa tr td kd to (st, vo, he, ha, de, ev, ph, (fi + 1) % 64, se, lo, q) := rfl
  rw [ec] at h hev
  refine pk_eq (x := Q.2.2.2.2.2.2.1 fi) (y := 3) to 3 (fun z => And.intro hv ?_) (fun z => And.intro hv (And.intro hv ?_)) m3 rfl
  · rw [if_pos z] at h hev
    rw [m1]
    exact xm_led (Q := (nI ((fi + 1) % 64), nI q.length, Q.2.2)) hE hj' hse m5 (m8 z) hev h
  · rw [if_neg z] at h hev
    rw [m1, m3]
    exact xm_mac (Q := (nI ((fi + 1) % 64), nI q.length, Q.2.2)) hE hj' hse m5 (by omega) hev h
theorem xm_over {post : Int32 → Prop} (hpa : pa < 8) (hst : st < 4) (hhe : he < 8) (h1 : (st = 2 ∨ st = 3) ∧ he = pa → post 1) (h0 : ¬ ((st = 2 ∨ st = 3) ∧ he = pa) → post 0) :
    wpX_isOver post (mk_X (bb_X nm t pa tr td cc) (vv_X st vo he ha) Q L D p g) := by
  have k16 : (st = 2 ∨ st = 3) → wX_isOver_16 post D.1 (vv_X st vo he ha).1 (vv_X st vo he ha).2.1 (vv_X st vo he ha).2.2.1 (bb_X nm t pa tr td cc).1 (bb_X nm t pa tr td cc).2.1 (bb_X nm t pa tr td cc).2.2.1 (bb_X nm t pa tr td cc).2.2.2.1 (bb_X nm t pa tr td cc).2.2.2.2.1 (bb_X nm t pa tr td cc).2.2.2.2.2.1 (vv_X st vo he ha).2.2.2 (bb_X nm t pa tr td cc).2.2.2.2.2.2 Q.1 Q.2.1 Q.2.2.1 Q.2.2.2.1 L.1 L.2.1 L.2.2.1 L.2.2.2.1 L.2.2.2.2.1 L.2.2.2.2.2 D.2.1 D.2.2.1 D.2.2.2.1 D.2.2.2.2 p g Q.2.2.2.2.1 Q.2.2.2.2.2.1 Q.2.2.2.2.2.2.1 Q.2.2.2.2.2.2.2 := fun w =>
    pk_eq (x := nI he) (y := nI pa) he pa (fun z => h1 ⟨w, z⟩) (fun z => h0 (fun q => z q.2)) rfl rfl
  refine pk_eq (x := nI st) (y := 2) st 2 (fun z => k16 (Or.inl z)) (fun z => ?_) rfl rfl
  exact pk_eq (x := nI st) (y := 3) st 3 (fun y => k16 (Or.inr y)) (fun y => h0 (fun q => by omega)) rfl rfl
theorem xm_run {post : Int32 → SX → Prop} (hE : en_v nm t pa tr td A H)
    (hend : ∀ c Q L D p g, cj_X nm t td A N H S C c Q L D p g → cs_fin pa tr td c = true → wX_commit_114 post (nI t) D.1 (vc_X c).1 (vc_X c).2.1 (vc_X c).2.2.1 (bb_X nm t pa tr td cc).1 (bb_X nm t pa tr td cc).2.1 (bb_X nm t pa tr td cc).2.2.1 (bb_X nm t pa tr td cc).2.2.2.1 (bb_X nm t pa tr td cc).2.2.2.2.1 (bb_X nm t pa tr td cc).2.2.2.2.2.1 (vc_X c).2.2.2 (bb_X nm t pa tr td cc).2.2.2.2.2.2 Q.1 Q.2.1 Q.2.2.1 Q.2.2.2.1 L.1 L.2.1 L.2.2.1 L.2.2.2.1 L.2.2.2.2.1 L.2.2.2.2.2 D.2.1 D.2.2.1 D.2.2.2.1 D.2.2.2.2 p g Q.2.2.2.2.1 Q.2.2.2.2.2.1 Q.2.2.2.2.2.2.1 Q.2.2.2.2.2.2.2) :
    ∀ n i f c Q L D p g, cs_run pa tr td n c = true → i + n ≤ 2000 → n ≤ f → cj_X nm t td A N H S C c Q L D p g → wX_commit_75 post (nI t) f (nI i) D.1 (vc_X c).1 (vc_X c).2.1 (vc_X c).2.2.1 (bb_X nm t pa tr td cc).1 (bb_X nm t pa tr td cc).2.1 (bb_X nm t pa tr td cc).2.2.1 (bb_X nm t pa tr td cc).2.2.2.1 (bb_X nm t pa tr td cc).2.2.2.2.1 (bb_X nm t pa tr td cc).2.2.2.2.2.1 (vc_X c).2.2.2 (bb_X nm t pa tr td cc).2.2.2.2.2.2 Q.1 Q.2.1 Q.2.2.1 Q.2.2.2.1 L.1 L.2.1 L.2.2.1 L.2.2.2.1 L.2.2.2.2.1 L.2.2.2.2.2 D.2.1 D.2.2.1 D.2.2.2.1 D.2.2.2.2 p g Q.2.2.2.2.1 Q.2.2.2.2.2.1 Q.2.2.2.2.2.2.1 Q.2.2.2.2.2.2.2 := by
  intro n
  induction n with
  | zero => intro i f c Q L D p g hr; exact absurd hr Bool.false_ne_true
  | succ n ih =>
    intro i f c Q L D p g hr hi hf hj
    cases f with
    | zero => omega
    | succ f =>
      obtain ⟨st, vo, he, ha, de, ev, ph, fi, se, lo, q⟩ := c
      have e4 := hE.2.2.2.1
      obtain ⟨j1, j2, j3, j4, j5, j6, j7⟩ := id hj
      dsimp only at j1 j2 j3 j4 j5 j6 j7
      refine br_f (nI_ge (b := 2000) (by omega) (by decide)) ?_
      have hr' : (if cs_over pa (st, vo, he, ha, de, ev, ph, fi, se, lo, q) = true then cs_fin pa tr td (st, vo, he, ha, de, ev, ph, fi, se, lo, q) else if se < 1000 ∧ (cs_step pa tr td (st, vo, he, ha, de, ev, ph, fi, se, lo, q)).2.2.2.2.2.1 < 9 then cs_run pa tr td n (cs_step pa tr td (st, vo, he, ha, de, ev, ph, fi, se, lo, q)) else false) = true := hr
      have over1 : (st = 2 ∨ st = 3) ∧ he = pa → wX_commit_114 post (nI t) D.1 (vv_X st vo he ha).1 (vv_X st vo he ha).2.1 (vv_X st vo he ha).2.2.1 (bb_X nm t pa tr td cc).1 (bb_X nm t pa tr td cc).2.1 (bb_X nm t pa tr td cc).2.2.1 (bb_X nm t pa tr td cc).2.2.2.1 (bb_X nm t pa tr td cc).2.2.2.2.1 (bb_X nm t pa tr td cc).2.2.2.2.2.1 (vv_X st vo he ha).2.2.2 (bb_X nm t pa tr td cc).2.2.2.2.2.2 Q.1 Q.2.1 Q.2.2.1 Q.2.2.2.1 L.1 L.2.1 L.2.2.1 L.2.2.2.1 L.2.2.2.2.1 L.2.2.2.2.2 D.2.1 D.2.2.1 D.2.2.2.1 D.2.2.2.2 p g Q.2.2.2.2.1 Q.2.2.2.2.2.1 Q.2.2.2.2.2.2.1 Q.2.2.2.2.2.2.2 := by
        intro w
        have eo : cs_over pa (st, vo, he, ha, de, ev, ph, fi, se, lo, q) = true := by
          show ((decide (st = 2) || decide (st = 3)) && decide (he = pa)) = true
          rw [Bool.and_eq_true, Bool.or_eq_true, decide_eq_true_eq, decide_eq_true_eq, decide_eq_true_eq]
          exact w
        rw [if_pos eo] at hr'
        exact hend (st, vo, he, ha, de, ev, ph, fi, se, lo, q) Q L D p g hj hr'
      have no : ¬ ((st = 2 ∨ st = 3) ∧ he = pa) → se < 1000 ∧ (cs_step pa tr td (st, vo, he, ha, de, ev, ph, fi, se, lo, q)).2.2.2.2.2.1 < 9 ∧ cs_run pa tr td n (cs_step pa tr td (st, vo, he, ha, de, ev, ph, fi, se, lo, q)) = true := by
        intro w
        have eo : ¬ cs_over pa (st, vo, he, ha, de, ev, ph, fi, se, lo, q) = true := by
          show ¬ ((decide (st = 2) || decide (st = 3)) && decide (he = pa)) = true
          rw [Bool.and_eq_true, Bool.or_eq_true, decide_eq_true_eq, decide_eq_true_eq, decide_eq_true_eq]
          exact w
        rw [if_neg eo] at hr'
        by_cases y : se < 1000 ∧ (cs_step pa tr td (st, vo, he, ha, de, ev, ph, fi, se, lo, q)).2.2.2.2.2.1 < 9
        · rw [if_pos y] at hr'
          exact ⟨y.1, y.2, hr'⟩
        · rw [if_neg y] at hr'
          exact absurd hr' (by decide)
      refine xm_over e4 j1.1.1 j1.2.2.1 (fun w => br_f (by decide) (over1 w)) (fun w => br_t rfl ?_)
      obtain ⟨n1, n2, n3⟩ := no w
      refine pk_eq (x := Q.2.1) (y := 0) q.length 0 (fun z => ?_) (fun z => ?_) j2.2.2.1 rfl (by have w : q.length ≤ 64 := j2.2.2.2.1; omega)
      · cases q with
        | nil =>
          have es : cs_step pa tr td (st, vo, he, ha, de, ev, ph, fi, se, lo, []) = cs_rem pa tr (st, vo, he, ha, de, ev, ph, fi, se, lo, []) := if_pos rfl
          rw [es] at n3
          exact xm_rem hE hj (by show se < 50000; omega) (fun Q' hj' => nm_r (nI_1 i) (ih (i + 1) f (cs_rem pa tr (st, vo, he, ha, de, ev, ph, fi, se, lo, [])) Q' L D p g n3 (by omega) (by omega) hj'))
        | cons x q => exact absurd z (Nat.succ_ne_zero _)
      · cases q with
        | nil => exact absurd rfl z
        | cons x q =>
          obtain ⟨kd, fr, to⟩ := x
          have es : cs_step pa tr td (st, vo, he, ha, de, ev, ph, fi, se, lo, (kd, fr, to) :: q) = cs_del pa tr td (st, vo, he, ha, de, ev, ph, fi, se, lo, (kd, fr, to) :: q) := if_neg (List.cons_ne_nil _ _)
          rw [es] at n2 n3
          exact xm_del hE hj (by omega) n2 (fun Q' L' D' p' g' hj' => nm_r (nI_1 i) (ih (i + 1) f _ Q' L' D' p' g' n3 (by omega) (by omega) hj'))
end
end
section
/-! ===== a commit of the component, whole ===== -/
def xi_X (A : Nat → Bool) (N : Nat → Int32) (H : Nat → Nat) (S : Nat → Int32) (C : Nat → Bool) (dn : Int32) (nm : Nat) (u : SX) : Prop :=
  ∃ B V Q L D p g, u = mk_X B V Q L D p g ∧ B.1 = nI nm ∧ B.2.2.2.2.2.2 = dn ∧ V.1 = 0 ∧ co_re A N H S C D ∧ il_g L nm N ∧ (∀ j, j < 12 → p j = 0) ∧ (∀ t', t' < 4 → A t' = true → ∀ m, m < 3 → g (t' * 3 + m) = 0)
def fi_A (A : Nat → Bool) (H : Nat → Nat) (t td ev : Nat) : Nat → Bool := kl_A (kl_1 t) (mi_A A H t td ev)
def fi_H (H : Nat → Nat) (t td ev : Nat) : Nat → Nat := fun k => if H k = t + 1 then 0 else kl_H (mi_K H t td ev) H k
def fi_N (N : Nat → Int32) (H : Nat → Nat) (S : Nat → Int32) (C : Nat → Bool) (t de : Nat) : Nat → Int32 := fun k => if de = 1 ∧ H k = t + 1 ∧ C k = true then S k else N k
theorem fi_Hk {H : Nat → Nat} {C : Nat → Bool} {t td ev : Nat} {ph : Nat → Nat} (k : Nat) : fi_H H t td ev k = kl_H (kl_1 t) (mi_H H C t td ev ph) k := by
  unfold fi_H
  by_cases c : H k = t + 1
  · rw [if_pos c]
    rw [show kl_H (kl_1 t) (mi_H H C t td ev ph) k = (if mi_H H C t td ev ph k ≠ 0 ∧ kl_1 t (mi_H H C t td ev ph k - 1) = true then 0 else mi_H H C t td ev ph k) from rfl, mi_Ht c]
    rcases mi_h01 t (ph (k % 3)) (C k) with q | q
    · rw [q]; simp
    · rw [q, if_pos ⟨by omega, by unfold kl_1; simp⟩]
  · rw [if_neg c]
    rw [show kl_H (kl_1 t) (mi_H H C t td ev ph) k = (if mi_H H C t td ev ph k ≠ 0 ∧ kl_1 t (mi_H H C t td ev ph k - 1) = true then 0 else mi_H H C t td ev ph k) from rfl, mi_Hn c]
    rw [if_neg]
    rintro ⟨a, b⟩
    have b' : kl_H (mi_K H t td ev) H k - 1 = t := of_decide_eq_true b
    rcases kl_le (mi_K H t td ev) H k with q | q <;> omega
theorem cs_f1d {pa de : Nat} {ph : Nat → Nat} {m : Nat} (h : cs_f1 pa de ph m = true) : ph m ≠ 1 ∧ ph m ≠ 2 ∧ (de = 1 → pa.testBit m = true → ph m = 3) ∧ (de ≠ 1 → ph m ≠ 3) := by
  unfold cs_f1 at h
  simp only [Bool.and_eq_true, Bool.or_eq_true, decide_eq_true_eq, Bool.not_eq_true'] at h
  obtain ⟨a, b, c, d⟩ := h
  refine ⟨a, b, fun x y => ?_, fun x => ?_⟩
  · rcases c with c | c | c
    · exact absurd x c
    · exact absurd (c.symm.trans y) (by decide)
    · exact c
  · rcases d with d | d
    · exact absurd d x
    · exact d
section
variable {nm t pa tr td : Nat} {cc : Int32} {A : Nat → Bool} {N : Nat → Int32} {H : Nat → Nat} {S : Nat → Int32} {C : Nat → Bool}
variable {B : ty_B} {V : ty_V} {Q : ty_Q} {L : ty_L} {D : ty_D} {p g : Nat → Int32}
theorem xm_end {post : Int32 → SX → Prop} (hE : en_v nm t pa tr td A H)
    (h : ∀ u', xi_X (fi_A A H t td (cs_ev tr)) (fi_N N H S C t (cs_de pa tr td)) (fi_H H t td (cs_ev tr)) S C (cc + nI (cs_de pa tr td)) nm u' → post (nI (cs_de pa tr td)) u')
    (c : ty_C) (Q : ty_Q) (L : ty_L) (D : ty_D) (p g : Nat → Int32) (hj : cj_X nm t td A N H S C c Q L D p g) (hf : cs_fin pa tr td c = true) : wX_commit_114 post (nI t) D.1 (vc_X c).1 (vc_X c).2.1 (vc_X c).2.2.1 (bb_X nm t pa tr td cc).1 (bb_X nm t pa tr td cc).2.1 (bb_X nm t pa tr td cc).2.2.1 (bb_X nm t pa tr td cc).2.2.2.1 (bb_X nm t pa tr td cc).2.2.2.2.1 (bb_X nm t pa tr td cc).2.2.2.2.2.1 (vc_X c).2.2.2 (bb_X nm t pa tr td cc).2.2.2.2.2.2 Q.1 Q.2.1 Q.2.2.1 Q.2.2.2.1 L.1 L.2.1 L.2.2.1 L.2.2.2.1 L.2.2.2.2.1 L.2.2.2.2.2 D.2.1 D.2.2.1 D.2.2.2.1 D.2.2.2.2 p g Q.2.2.2.2.1 Q.2.2.2.2.2.1 Q.2.2.2.2.2.2.1 Q.2.2.2.2.2.2.2 := by
  obtain ⟨st, vo, he, ha, de, ev, ph, Z⟩ := c
  obtain ⟨e1, e2, e3, e4, e5, e6, e7, e8, e9, e10⟩ := id hE
  obtain ⟨j1, j2, j3, j4, j5, j6, j7⟩ := id hj
  dsimp only at j1 j2 j3 j4 j5 j6 j7
  have hf' : (decide (de = cs_de pa tr td) && (decide (ev = cs_ev tr) && (cs_f1 pa de ph 0 && (cs_f1 pa de ph 1 && cs_f1 pa de ph 2)))) = true := hf
  simp only [Bool.and_eq_true, decide_eq_true_eq] at hf'
  obtain ⟨f1, f2, f3, f4, f5⟩ := hf'
  rw [← f1, ← f2] at h
  have fm : ∀ m, m < 3 → cs_f1 pa de ph m = true := by
    intro m hm
    have : m = 0 ∨ m = 1 ∨ m = 2 := by omega
    rcases this with q | q | q <;> subst q
    · exact f3
    · exact f4
    · exact f5
  have hN : ∀ k, k < 12 → fi_N N H S C t de k = mi_N N H S C t ph k := by
    intro k hk
    obtain ⟨a1, a2, a3, a4⟩ := cs_f1d (fm (k % 3) (by omega))
    unfold fi_N mi_N
    by_cases c : H k = t + 1 ∧ C k = true
    · have hb : pa.testBit (k % 3) = true := by
        rw [e10 (k % 3) (by omega), hn_iff]
        exact ⟨k, hk, rfl, c.1⟩
      by_cases d : de = 1
      · rw [if_pos ⟨d, c⟩, if_pos ⟨c.1, c.2, a3 d hb⟩]
      · rw [if_neg (fun q => d q.1), if_neg (fun q => a4 d q.2.2)]
    · rw [if_neg (fun q => c q.2), if_neg (fun q => c ⟨q.1, q.2.1⟩)]
  obtain ⟨n, d1, d2, d3⟩ := j5
  have k132 : wX_commit_132 post (nI t) (nI de) D.1 (vv_X st vo he ha).1 (vv_X st vo he ha).2.1 (vv_X st vo he ha).2.2.1 (bb_X nm t pa tr td cc).1 (bb_X nm t pa tr td cc).2.1 (bb_X nm t pa tr td cc).2.2.1 (bb_X nm t pa tr td cc).2.2.2.1 (bb_X nm t pa tr td cc).2.2.2.2.1 (bb_X nm t pa tr td cc).2.2.2.2.2.1 (vv_X st vo he ha).2.2.2 (bb_X nm t pa tr td cc).2.2.2.2.2.2 Q.1 Q.2.1 Q.2.2.1 Q.2.2.2.1 L.1 L.2.1 L.2.2.1 L.2.2.2.1 L.2.2.2.2.1 L.2.2.2.2.2 D.2.1 D.2.2.1 D.2.2.2.1 D.2.2.2.2 p g Q.2.2.2.2.1 Q.2.2.2.2.2.1 Q.2.2.2.2.2.2.1 Q.2.2.2.2.2.2.2 := by
    unfold wX_commit_132
    refine xl_log (V := vv_X st vo he ha) (m := 3) (n := n) (kd := 6) (ky := 0) (by decide) (by omega) d2.1 (by decide) (by decide) (nI nm) 0 ?_
    refine xb_roll (B := bb_X nm t pa tr td cc) (V := (0, nI vo, nI he, nI ha)) (L := lg_A L 3 n 6 (nI nm) 0 0) e3 j3 (fun D' hD' => nm_e ?_)
    have hC' : co_re (fi_A A H t td ev) (fi_N N H S C t de) (fi_H H t td ev) S C D' := co_cong hD' (fun _ _ => rfl) (fun k hk => hN k hk) (fun k _ => fi_Hk k) (fun _ _ _ => rfl) (fun _ _ _ => rfl)
    refine xs_short (B := (nI nm, nI nm, nI t, nI pa, nI tr, nI td, cc + nI de)) (V := (0, nI vo, nI he, nI ha)) (L := lg_A L 3 n 6 (nI nm) 0 0) (nm := nm) hC' (fun m hm => ?_) ?_ (fun L' hL' => h _ ?_)
    · obtain ⟨n', l1, l2, l3, l4⟩ := mi_ll (kd := 6) (y := nI nm) (ky := 0) (v := 0) (j4 m hm) hm (show n < 64 by omega)
      obtain ⟨a1, a2, a3, a4⟩ := cs_f1d (fm m hm)
      have ho : mi_o nm (ph m) = 0 := if_neg (by omega)
      rw [ho] at l2
      exact ⟨n', by have := mi_b46 (ph m); omega, lg_m_c l2 (Nat.le_refl _) (fun k hk _ => hN k hk)⟩
    · refine ⟨n + 1, by omega, by show upd L.2.1 3 (nI (n + 1)) 3 = _; exact pk_us, fun i hi => ?_⟩
      rcases Nat.lt_or_ge i n with w | w
      · rw [(lg_A_eq L 3 n 6 (nI nm) 0 0 i w).2.1]; exact d2.2 i w
      · have : i = n := by omega
        subst this
        exact ⟨nm, Nat.le_refl _, (lg_A_at L 3 i 6 (nI nm) 0 0).2.1⟩
    · refine ⟨(nI nm, nI nm, nI t, nI pa, nI tr, nI td, cc + nI de), (0, nI vo, nI he, nI ha), Q, L', D', pr_0 t p, g, rfl, rfl, rfl, rfl, hC', hL', fun j hj => ?_, fun t' ht' hA' m hm => ?_⟩
      · rw [pr_0e]
        by_cases w : j / 3 = t
        · rw [if_pos w]
        · rw [if_neg w, j6 j hj, if_neg (fun q => w q.1)]
      · unfold fi_A kl_A at hA'
        rw [Bool.and_eq_true] at hA'
        refine j7.2 t' ht' (fun q => ?_) hA'.1 m hm
        have := hA'.2
        unfold kl_1 at this
        simp [q] at this
  unfold wX_commit_114
  refine xl_isl (B := bb_X nm t pa tr td cc) (V := vv_X st vo he ha) (m := 3) (n := n) (by decide) (by omega) d2.1 5 (nI nm) (fun q => br_f (by decide) ?_) (fun q => br_t rfl ?_)
  · have : de = 1 := d3.mp q
    subst this
    exact k132
  · have : de = 0 := by
      have w : ¬ de = 1 := fun z => q (d3.mpr z)
      have w2 : de < 2 := j1.2.2.2.2
      clear d3 q
      omega
    subst this
    exact k132
/-! the start -/
theorem sc_bit (b0 b1 b2 : Bool) : (∀ m, m < 3 → (if b2 = true then (if b1 = true then (if b0 = true then 0 ||| 2 ^ 0 else 0) ||| 2 ^ 1 else (if b0 = true then 0 ||| 2 ^ 0 else 0)) ||| 2 ^ 2 else (if b1 = true then (if b0 = true then 0 ||| 2 ^ 0 else 0) ||| 2 ^ 1 else (if b0 = true then 0 ||| 2 ^ 0 else 0))).testBit m = (if m = 0 then b0 else if m = 1 then b1 else b2)) ∧
    (if b2 = true then (if b1 = true then (if b0 = true then 0 ||| 2 ^ 0 else 0) ||| 2 ^ 1 else (if b0 = true then 0 ||| 2 ^ 0 else 0)) ||| 2 ^ 2 else (if b1 = true then (if b0 = true then 0 ||| 2 ^ 0 else 0) ||| 2 ^ 1 else (if b0 = true then 0 ||| 2 ^ 0 else 0))) < 8 := by
  revert b0 b1 b2
  decide +kernel
theorem sc_st {post : SX → Prop} {m q n : Nat} (ht : t < 4) (hm : m < 3) (hq : q < 8) (hC : co_re A N H S C D)
    (h : ∀ q', q' < 8 → (q' = if hn_k H m t 12 = true then q ||| 2 ^ m else q) → wX_startCommit_30 post (nI t) D.1 V.1 V.2.1 V.2.2.1 B.1 B.2.1 B.2.2.1 B.2.2.2.2.1 B.2.2.2.2.2.1 V.2.2.2 B.2.2.2.2.2.2 Q.1 Q.2.1 Q.2.2.1 Q.2.2.2.1 L.1 L.2.1 L.2.2.1 L.2.2.2.1 L.2.2.2.2.1 L.2.2.2.2.2 D.2.1 D.2.2.1 D.2.2.2.1 D.2.2.2.2 p g Q.2.2.2.2.1 Q.2.2.2.2.2.1 Q.2.2.2.2.2.2.1 Q.2.2.2.2.2.2.2 n (nI (m + 1)) (nI q')) : wX_startCommit_30 post (nI t) D.1 V.1 V.2.1 V.2.2.1 B.1 B.2.1 B.2.2.1 B.2.2.2.2.1 B.2.2.2.2.2.1 V.2.2.2 B.2.2.2.2.2.2 Q.1 Q.2.1 Q.2.2.1 Q.2.2.2.1 L.1 L.2.1 L.2.2.1 L.2.2.2.1 L.2.2.2.2.1 L.2.2.2.2.2 D.2.1 D.2.2.1 D.2.2.2.1 D.2.2.2.2 p g Q.2.2.2.2.1 Q.2.2.2.2.2.1 Q.2.2.2.2.2.2.1 Q.2.2.2.2.2.2.2 (n + 1) (nI m) (nI q) := by
  refine br_f (nI_ge (b := 3) hm (by decide)) ?_
  refine xb_hold (B := (B.1, B.2.1, B.2.2.1, nI q, B.2.2.2.2)) hC hm (fun y hy => ?_)
  obtain ⟨o1, o2⟩ := zm_o q hq m hm
  refine ek_if2 (zt_tst y (n := t) (by omega)) (fun z => ?_) (fun z => ?_)
  · rw [hy t (by omega)] at z
    have hz : hn_k H m t 12 = false := by simpa [ht] using z
    refine nm_r (e' := nI q) ?_ (nm_r (nI_1 m) (h q hq ?_))
    · apply b_ext
      intro i hi
      rw [b_or, b_0]; simp
    · rw [hz]; simp
  · rw [hy t (by omega)] at z
    have hz : hn_k H m t 12 = true := by simpa [ht] using z
    exact nm_r (e' := nI (q ||| 2 ^ m)) o1 (nm_r (nI_1 m) (h _ o2 (by rw [if_pos hz])))
theorem xm_start {post : SX → Prop} {nm0 : Nat} {b2 b3 b4 : Int32} (ht : t < 4) (hC : co_re A N H S C D)
    (h : ∀ pa, pa < 8 → (∀ m, m < 3 → pa.testBit m = hn_k H m t 12) → post (mk_X (bb_X (nm0 + 1) t pa tr td cc) (vv_X 1 0 0 0) (0, 0, 0, 0, Q.2.2.2.2) L D p g)) :
    wpX_startCommit post (mk_X (nI nm0, b2, b3, b4, nI tr, nI td, cc) V Q L D p g) (nI t) := by
  refine nm_r (e' := nI (nm0 + 1)) (nI_1 nm0) (Exists.intro 4 ?_)
  refine sc_st (B := (nI (nm0 + 1), nI (nm0 + 1), nI t, b4, nI tr, nI td, cc)) (m := 0) (q := 0) ht (by decide) (by decide) hC (fun q1 h1 e1 => ?_)
  refine sc_st (B := (nI (nm0 + 1), nI (nm0 + 1), nI t, b4, nI tr, nI td, cc)) (m := 1) (q := q1) ht (by decide) h1 hC (fun q2 h2 e2 => ?_)
  refine sc_st (B := (nI (nm0 + 1), nI (nm0 + 1), nI t, b4, nI tr, nI td, cc)) (m := 2) (q := q2) ht (by decide) h2 hC (fun q3 h3 e3 => ?_)
  refine br_t (nI_le (a := 3) (b := 3) (by decide) (by decide)) (h q3 h3 (fun m hm => ?_))
  rw [e3, e2, e1, (sc_bit (hn_k H 0 t 12) (hn_k H 1 t 12) (hn_k H 2 t 12)).1 m hm]
  have : m = 0 ∨ m = 1 ∨ m = 2 := by omega
  rcases this with w | w | w <;> subst w <;> simp
/-- the relation holds at the start -/
theorem xm_cj0 {nm0 : Nat} {q4 : (Nat → Int32) × (Nat → Int32) × (Nat → Int32) × (Nat → Int32)} (hE : en_v (nm0 + 1) t pa tr td A H) (hC : co_re A N H S C D) (hL : il_g L nm0 N) (hp : ∀ j, j < 12 → p j = 0) (hg : ∀ t', t' < 4 → A t' = true → ∀ m, m < 3 → g (t' * 3 + m) = 0) :
    cj_X (nm0 + 1) t td A N H S C cs_0 (0, 0, 0, 0, q4) L D p g := by
  obtain ⟨e1, e2, e3, e4, e5, e6, e7, e8, e9, e10⟩ := id hE
  have hN : ∀ k, mi_N N H S C t (fun _ => 0) k = N k := fun k => if_neg (fun q => absurd q.2.2 (show ¬ (0 : Nat) = 3 by decide))
  refine ⟨⟨⟨by show 1 < 4; omega, by show 1 ≠ 0; omega, fun _ => rfl⟩, Nat.zero_lt_succ 7, Nat.zero_lt_succ 7, Nat.zero_lt_succ 1, Nat.zero_lt_succ 1⟩, ⟨rfl, Nat.zero_lt_succ 63, rfl, Nat.zero_le _, rfl, rfl, Nat.zero_le _, fun j x hx => absurd hx (by simp [cs_0])⟩,
    co_cong hC (fun i _ => mi_A0 A H t td i) (fun k _ => hN k) (fun k _ => ?_) (fun _ _ _ => rfl) (fun _ _ _ => rfl), fun m hm => ?_, ?_, fun j hj => ?_, fun m hm => ⟨fun _ => hg t e3 e7 m hm, fun q => absurd q (show ¬ (0 : Nat) = 4 by decide)⟩, fun t' ht' _ hA' m hm => hg t' ht' (by rw [← mi_A0 A H t td t']; exact hA') m hm⟩
  · show mi_H H C t td 0 (fun _ => 0) k = H k
    by_cases c : H k = t + 1
    · rw [mi_Ht c, c]; exact if_pos (Or.inl (by omega))
    · exact mi_H0 c
  · obtain ⟨n, a, b⟩ := hL.1 m hm
    refine ⟨n, a, lg_m_c b (by omega) (fun k _ _ => hN k), fun _ i hi => ?_, fun q => absurd q (by show ¬ ((0 : Nat) = 1 ∨ (0 : Nat) = 2); omega)⟩
    obtain ⟨x, y, z⟩ := b.2.2.1 i hi
    rw [z]
    exact zt_ne (by omega) (by omega) (by omega)
  · obtain ⟨n, a, b1, b2⟩ := hL.2
    refine ⟨n, a, ⟨b1, fun i hi => ?_⟩, ⟨fun ⟨i, hi, _, q⟩ => ?_, fun q => absurd q (show ¬ (0 : Nat) = 1 by decide)⟩⟩
    · obtain ⟨x, y, z⟩ := b2 i hi
      exact ⟨x, by omega, z⟩
    · obtain ⟨x, y, z⟩ := b2 i hi
      rw [z] at q
      exact absurd q (zt_ne (by omega) (by omega) (by omega))
  · rw [hp j hj]
    exact (if_neg (fun q => absurd q.2 (by show ¬ ((0 : Nat) = 1 ∨ (0 : Nat) = 2); omega))).symm
theorem xm_68 {post : Int32 → SX → Prop} {st vo he ha de ev : Nat} {ph : Nat → Nat} {Z : ty_Z} (hE : en_v nm t pa tr td A H) (hj : cj_X nm t td A N H S C (st, vo, he, ha, de, ev, ph, Z) Q L D p g) (hst : st = 1) (hse : Z.2.1 < 50000)
    (hev : (cs_dec pa tr td (st, vo, he, ha, de, ev, ph, Z)).2.2.2.2.2.1 < 9) (hr : cs_run pa tr td 100 (cs_dec pa tr td (st, vo, he, ha, de, ev, ph, Z)) = true)
    (h : ∀ u', xi_X (fi_A A H t td (cs_ev tr)) (fi_N N H S C t (cs_de pa tr td)) (fi_H H t td (cs_ev tr)) S C (cc + nI (cs_de pa tr td)) nm u' → post (nI (cs_de pa tr td)) u') :
    wX_commit_68 post (nI t) D.1 (vv_X st vo he ha).1 (vv_X st vo he ha).2.1 (vv_X st vo he ha).2.2.1 (bb_X nm t pa tr td cc).1 (bb_X nm t pa tr td cc).2.1 (bb_X nm t pa tr td cc).2.2.1 (bb_X nm t pa tr td cc).2.2.2.1 (bb_X nm t pa tr td cc).2.2.2.2.1 (bb_X nm t pa tr td cc).2.2.2.2.2.1 (vv_X st vo he ha).2.2.2 (bb_X nm t pa tr td cc).2.2.2.2.2.2 Q.1 Q.2.1 Q.2.2.1 Q.2.2.2.1 L.1 L.2.1 L.2.2.1 L.2.2.2.1 L.2.2.2.2.1 L.2.2.2.2.2 D.2.1 D.2.2.1 D.2.2.2.1 D.2.2.2.2 p g Q.2.2.2.2.1 Q.2.2.2.2.2.1 Q.2.2.2.2.2.2.1 Q.2.2.2.2.2.2.2 := by
  subst hst
  unfold wX_commit_68
  exact xm_dec hE hj hse hev (fun Q' L' D' p' g' hj' => Exists.intro 101 (xm_run hE (fun c Q L D p g => xm_end hE h c Q L D p g) 100 0 101 _ Q' L' D' p' g' hr (by decide) (by decide) hj'))
end
end
section
/-! ===== the component's methods ===== -/
def co_ok (A : Nat → Bool) (v1 v2 v3 : Int32) : Prop := op_n A v1 ∧ (∃ tr, tr < 8 ∧ v2 = nI tr) ∧ ∃ td, td < 3 ∧ v3 = nI td
section
variable {t tr td : Nat} {A : Nat → Bool} {N : Nat → Int32} {H : Nat → Nat} {S : Nat → Int32} {C : Nat → Bool}
variable {B : ty_B} {V : ty_V} {Q : ty_Q} {L : ty_L} {D : ty_D} {p g : Nat → Int32}
theorem xp_commit {post : Int32 → SX → Prop} {nm0 : Nat} {dn : Int32} (hC : co_re A N H S C D) (hL : il_g L nm0 N) (hp : ∀ j, j < 12 → p j = 0) (hg : ∀ t', t' < 4 → A t' = true → ∀ m, m < 3 → g (t' * 3 + m) = 0) (hB1 : B.1 = nI nm0) (hB2 : B.2.2.2.2.2.2 = dn) (hnm : nm0 + 1 < 10000)
    (ht : t < 4) (hA : A t = true) (hH5 : ∀ k, k < 12 → H k < 5) (hHA : ∀ k, k < 12 → H k ≠ 0 → A (H k - 1) = true) (htr : tr < 8) (htd : td < 3)
    (h : ∀ pa, (∀ m, m < 3 → pa.testBit m = hn_k H m t 12) → ∀ u', xi_X (fi_A A H t td (cs_ev tr)) (fi_N N H S C t (cs_de pa tr td)) (fi_H H t td (cs_ev tr)) S C (dn + nI (cs_de pa tr td)) (nm0 + 1) u' → post (nI (cs_de pa tr td)) u') :
    wpX_commit post (mk_X B V Q L D p g) (nI t) (nI tr) (nI td) := by
  obtain ⟨b1, b2, b3, b4, b5, b6, b7⟩ := B
  dsimp only at hB1 hB2
  subst hB1 hB2
  unfold wpX_commit
  refine xa_open1 hC ht hA (br_f (by decide) ?_)
  refine br_f (nI_pos (by omega)) (br_f (nI_nlt (b := 7) (a := tr) |> fun q => ?_) (br_f (nI_pos (by omega)) (br_t (nI_lt (b := 3) htd (by decide)) ?_)))
  · rw [show (7 : Int32) = nI 7 from rfl, nI_ltI (by decide) (by omega)]; omega
  refine xm_start (V := V) (Q := Q) ht hC (fun pa hpa hbit => ?_)
  have hE : en_v (nm0 + 1) t pa tr td A H := ⟨by omega, by omega, ht, hpa, htr, htd, hA, hH5, hHA, hbit⟩
  have hj := xm_cj0 (N := N) (S := S) (C := C) (L := L) (q4 := Q.2.2.2.2) hE hC hL hp hg
  have hok : (decide ((cs_1 pa tr td).2.2.2.2.2.1 < 9) && (decide ((cs_dec pa tr td (cs_1 pa tr td)).2.2.2.2.2.1 < 9) && cs_run pa tr td 100 (cs_dec pa tr td (cs_1 pa tr td)))) = true := cs_ok pa hpa tr htr td htd
  simp only [Bool.and_eq_true, decide_eq_true_eq] at hok
  obtain ⟨k1, k2, k3⟩ := hok
  have go0 : ¬ (pa.testBit td = false ∧ tr = 1) → wX_commit_68 post (nI t) D.1 (vv_X 1 0 0 0).1 (vv_X 1 0 0 0).2.1 (vv_X 1 0 0 0).2.2.1 (bb_X (nm0 + 1) t pa tr td b7).1 (bb_X (nm0 + 1) t pa tr td b7).2.1 (bb_X (nm0 + 1) t pa tr td b7).2.2.1 (bb_X (nm0 + 1) t pa tr td b7).2.2.2.1 (bb_X (nm0 + 1) t pa tr td b7).2.2.2.2.1 (bb_X (nm0 + 1) t pa tr td b7).2.2.2.2.2.1 (vv_X 1 0 0 0).2.2.2 (bb_X (nm0 + 1) t pa tr td b7).2.2.2.2.2.2 (0, 0, 0, 0, Q.2.2.2.2).1 (0, 0, 0, 0, Q.2.2.2.2).2.1 (0, 0, 0, 0, Q.2.2.2.2).2.2.1 (0, 0, 0, 0, Q.2.2.2.2).2.2.2.1 L.1 L.2.1 L.2.2.1 L.2.2.2.1 L.2.2.2.2.1 L.2.2.2.2.2 D.2.1 D.2.2.1 D.2.2.2.1 D.2.2.2.2 p g (0, 0, 0, 0, Q.2.2.2.2).2.2.2.2.1 (0, 0, 0, 0, Q.2.2.2.2).2.2.2.2.2.1 (0, 0, 0, 0, Q.2.2.2.2).2.2.2.2.2.2.1 (0, 0, 0, 0, Q.2.2.2.2).2.2.2.2.2.2.2 := by
    intro c
    have e : cs_1 pa tr td = cs_0 := if_neg c
    rw [e] at k2 k3
    exact xm_68 hE hj rfl (Nat.zero_lt_succ _) k2 k3 (h pa hbit)
  cases hb : pa.testBit td with
  | true => exact xq_part1 (V := vv_X 1 0 0 0) hpa htd hb (br_f (by decide) (go0 (fun q => absurd (hb.symm.trans q.1) (by decide))))
  | false =>
    refine xq_part0 (V := vv_X 1 0 0 0) hpa htd hb (br_t rfl ?_)
    refine xq_str (st := 1) (vo := 0) (he := 0) (ha := 0) (w := 1) (m := td) (Q := (0, 0, 0, 0, Q.2.2.2.2)) (by decide) htd htr htd (by decide) (fun z1 _ _ => ?_) (fun z => br_t rfl (go0 (fun q => z ⟨q.2, rfl, rfl⟩)))
    have e : cs_1 pa tr td = (1, 0, 0, 1, 0, cs_bev 0 (fun _ => 0) td, cs_bph pa (fun _ => 0) td, 0, 0, 0, []) := if_pos ⟨hb, z1⟩
    rw [e] at k1 k2 k3
    exact br_f (by decide) (xm_hit hE hj (by decide) rfl k1 (fun r D' p' g' hj' => xm_68 hE hj' rfl (Nat.zero_lt_succ _) k2 k3 (h pa hbit)))
theorem xp_commit0 {post : Int32 → SX → Prop} {v1 v2 v3 : Int32} (hC : co_re A N H S C D) (hn : ¬ co_ok A v1 v2 v3) (h : post (-100000) (mk_X B V Q L D p g)) : wpX_commit post (mk_X B V Q L D p g) v1 v2 v3 := by
  unfold wpX_commit
  by_cases c : op_n A v1
  · obtain ⟨t, ht, rfl, hA⟩ := c
    refine xa_open1 hC ht hA (br_f (by decide) ?_)
    refine br_c (fun _ => h) (fun z1 => br_c (fun _ => h) (fun z2 => br_c (fun _ => h) (fun z3 => br_c (fun z4 => ?_) (fun _ => h))))
    obtain ⟨tr, h1, rfl⟩ := nI_of z1
    obtain ⟨td, h2, rfl⟩ := nI_of z3
    rw [show (7 : Int32) = nI 7 from rfl, nI_ltI (by decide) h1] at z2
    rw [show (3 : Int32) = nI 3 from rfl, nI_ltI h2 (by decide)] at z4
    exact absurd ⟨⟨t, ht, rfl, hA⟩, ⟨tr, by omega, rfl⟩, ⟨td, z4, rfl⟩⟩ hn
  · exact xa_open0 hC c (br_t rfl h)
/-! beginning -/
theorem co_begin (hC : co_re A N H S C D) (ht : t < 4) (hH : ∀ k, k < 12 → H k ≠ t + 1) : co_re (zt_ub A t true) N H S C (D.1 ||| ((1 : Int32) <<< (nI t &&& 31)), D.2.1, D.2.2.1, upd D.2.2.2.1 t 0, D.2.2.2.2) := by
  obtain ⟨c1, c2, c3, c4, c5, c6⟩ := hC
  refine ⟨fun i hi => ?_, c2, c3, fun t' ht' i hi => ?_, c5, c6⟩
  · show bt (D.1 ||| ((1 : Int32) <<< (nI t &&& 31))) i = (decide (i < 4) && (if i = t then true else A i))
    rw [zt_set _ (by omega) hi, c1 i hi]
    by_cases e : i = t
    · subst e; simp [ht]
    · simp [e]
  · show bt (if t' = t then 0 else D.2.2.2.1 t') i = _
    by_cases e : t' = t
    · subst e
      rw [if_pos rfl, b_0]
      by_cases z : i < 12
      · simp [hH i z]
      · simp [z]
    · rw [if_neg e]; exact c4 t' ht' i hi
theorem xp_beg36 {post : Int32 → SX → Prop} (ht : t < 4) (h : post (nI t) (mk_X B V Q L D (pr_0 t p) (pr_0 t g))) : ∃ n, wX_begin_36 post (nI t) D.1 V.1 V.2.1 V.2.2.1 B.1 B.2.1 B.2.2.1 B.2.2.2.1 B.2.2.2.2.1 B.2.2.2.2.2.1 V.2.2.2 B.2.2.2.2.2.2 Q.1 Q.2.1 Q.2.2.1 Q.2.2.2.1 n 0 L.1 L.2.1 L.2.2.1 L.2.2.2.1 L.2.2.2.2.1 L.2.2.2.2.2 D.2.1 D.2.2.1 D.2.2.2.1 D.2.2.2.2 p g Q.2.2.2.2.1 Q.2.2.2.2.2.1 Q.2.2.2.2.2.2.1 Q.2.2.2.2.2.2.2 := by
  have st : ∀ m, m < 3 → ∀ (a b : Nat → Int32) (j : Nat), wX_begin_36 post (nI t) D.1 V.1 V.2.1 V.2.2.1 B.1 B.2.1 B.2.2.1 B.2.2.2.1 B.2.2.2.2.1 B.2.2.2.2.2.1 V.2.2.2 B.2.2.2.2.2.2 Q.1 Q.2.1 Q.2.2.1 Q.2.2.2.1 j (nI (m + 1)) L.1 L.2.1 L.2.2.1 L.2.2.2.1 L.2.2.2.2.1 L.2.2.2.2.2 D.2.1 D.2.2.1 D.2.2.2.1 D.2.2.2.2 (upd a (t * 3 + m) 0) (upd b (t * 3 + m) 0) Q.2.2.2.2.1 Q.2.2.2.2.2.1 Q.2.2.2.2.2.2.1 Q.2.2.2.2.2.2.2 → wX_begin_36 post (nI t) D.1 V.1 V.2.1 V.2.2.1 B.1 B.2.1 B.2.2.1 B.2.2.2.1 B.2.2.2.2.1 B.2.2.2.2.2.1 V.2.2.2 B.2.2.2.2.2.2 Q.1 Q.2.1 Q.2.2.1 Q.2.2.2.1 (j + 1) (nI m) L.1 L.2.1 L.2.2.1 L.2.2.2.1 L.2.2.2.2.1 L.2.2.2.2.2 D.2.1 D.2.2.1 D.2.2.2.1 D.2.2.2.2 a b Q.2.2.2.2.1 Q.2.2.2.2.2.1 Q.2.2.2.2.2.2.1 Q.2.2.2.2.2.2.2 := by
    intro m hm a b j q
    refine br_f (nI_ge (b := 3) hm (by decide)) ?_
    rw [zi_3, zt_cl (by omega)]
    exact And.intro (vp_in_nI (by omega) (by decide)) (nm_e (And.intro (vp_in_nI (by omega) (by decide)) (nm_r (e' := upd b (t * 3 + m) 0) rfl (nm_r (nI_1 m) q))))
  exact ⟨4, st 0 (by decide) _ _ 3 (st 1 (by decide) _ _ 2 (st 2 (by decide) _ _ 1 (br_t (nI_le (a := 3) (b := 3) (by decide) (by decide)) h)))⟩
theorem xp_beg1 {post : Int32 → SX → Prop} (hC : co_re A N H S C D) (ht : t < 4) (hf : A t = false) (hb : ∀ j, j < t → A j = true) (hH : ∀ k, k < 12 → H k ≠ t + 1)
    (h : ∀ D', co_re (zt_ub A t true) N H S C D' → post (nI t) (mk_X B V Q L D' (pr_0 t p) (pr_0 t g))) : wpX_begin post (mk_X B V Q L D p g) := by
  have go : ∀ r i f, i + r = t → r < f → wX_begin_2 post D.1 V.1 V.2.1 V.2.2.1 B.1 B.2.1 B.2.2.1 B.2.2.2.1 B.2.2.2.2.1 B.2.2.2.2.2.1 V.2.2.2 B.2.2.2.2.2.2 Q.1 Q.2.1 Q.2.2.1 Q.2.2.2.1 L.1 L.2.1 L.2.2.1 L.2.2.2.1 L.2.2.2.2.1 L.2.2.2.2.2 D.2.1 D.2.2.1 D.2.2.2.1 D.2.2.2.2 p g Q.2.2.2.2.1 Q.2.2.2.2.2.1 Q.2.2.2.2.2.2.1 Q.2.2.2.2.2.2.2 f (nI i) := by
    intro r
    induction r with
    | zero =>
      intro i f hi hfu
      cases f with
      | zero => omega
      | succ f =>
        have : i = t := by omega
        subst this
        refine br_f (nI_ge (b := 4) ht (by decide)) (xa_open0 hC ?_ (br_t rfl (nm_e (And.intro (vp_in_nI ht (by decide)) (nm_r (e' := upd D.2.2.2.1 i 0) (by rw [zt_cl (by omega), zt_s0]) ?_)))))
        · rintro ⟨t', a, b, c⟩
          rw [nI_eq (by omega) (by omega)] at b
          subst b
          exact absurd (hf.symm.trans c) (by decide)
        · exact xp_beg36 (D := (D.1 ||| ((1 : Int32) <<< (nI i &&& 31)), D.2.1, D.2.2.1, upd D.2.2.2.1 i 0, D.2.2.2.2)) ht (h _ (co_begin hC ht hH))
    | succ r ih =>
      intro i f hi hfu
      cases f with
      | zero => omega
      | succ f => exact br_f (nI_ge (b := 4) (by omega) (by decide)) (xa_open1 hC (by omega) (hb i (by omega)) (br_f (by decide) (nm_r (nI_1 i) (ih (i + 1) f (by omega) (by omega)))))
  exact Exists.intro (t + 1) (go t 0 (t + 1) (by omega) (by omega))
theorem xp_beg0 {post : Int32 → SX → Prop} (hC : co_re A N H S C D) (hb : ∀ j, j < 4 → A j = true) (h : post (-200000) (mk_X B V Q L D p g)) : wpX_begin post (mk_X B V Q L D p g) := by
  have go : ∀ r i f, i + r = 4 → r < f → wX_begin_2 post D.1 V.1 V.2.1 V.2.2.1 B.1 B.2.1 B.2.2.1 B.2.2.2.1 B.2.2.2.2.1 B.2.2.2.2.2.1 V.2.2.2 B.2.2.2.2.2.2 Q.1 Q.2.1 Q.2.2.1 Q.2.2.2.1 L.1 L.2.1 L.2.2.1 L.2.2.2.1 L.2.2.2.2.1 L.2.2.2.2.2 D.2.1 D.2.2.1 D.2.2.2.1 D.2.2.2.2 p g Q.2.2.2.2.1 Q.2.2.2.2.2.1 Q.2.2.2.2.2.2.1 Q.2.2.2.2.2.2.2 f (nI i) := by
    intro r
    induction r with
    | zero =>
      intro i f hi hfu
      cases f with
      | zero => omega
      | succ f => exact br_t (nI_le (a := 4) (by omega) (by omega)) h
    | succ r ih =>
      intro i f hi hfu
      cases f with
      | zero => omega
      | succ f => exact br_f (nI_ge (b := 4) (by omega) (by decide)) (xa_open1 hC (by omega) (hb i (by omega)) (br_f (by decide) (nm_r (nI_1 i) (ih (i + 1) f (by omega) (by omega)))))
  exact Exists.intro 5 (go 4 0 5 (by omega) (by omega))
/-! reading and writing -/
theorem co_get (hC : co_re A N H S C D) {k : Nat} (ht : t < 4) (hk : k < 12) (hf : H k = 0 ∨ H k = t + 1) :
    co_re A N (zt_un H k (t + 1)) (upd S k (se_n N H S t k)) (zt_ub C k (decide (H k = t + 1) && C k)) (D.1, D.2.1, upd D.2.2.1 k (nI t), D.2.2.2.1, D.2.2.2.2) := by
  obtain ⟨h1, h2, h3, h4, h5, h6⟩ := hC
  refine ⟨h1, h2, fun i hi => ?_, fun t' ht' i hi => ?_, fun t' ht' i hi e c => ?_, fun i hi => ?_⟩
  · show (if i = k then nI t else D.2.2.1 i) = zt_hv (if i = k then t + 1 else H i)
    by_cases z : i = k
    · rw [if_pos z, if_pos z, zt_hv_s]
    · rw [if_neg z, if_neg z, h3 i hi]
  · show bt (D.2.2.2.1 t') i = (decide (i < 12) && (decide ((if i = k then t + 1 else H i) = t' + 1) && (if i = k then (decide (H k = t + 1) && C k) else C i)))
    rw [h4 t' ht' i hi]
    by_cases y : i = k
    · subst y
      by_cases x : t = t'
      · subst x; simp
      · have a : ¬ H i = t' + 1 := by omega
        simp [a, x]
    · simp [y]
  · have e' : (if i = k then t + 1 else H i) = t' + 1 := e
    have c' : (if i = k then (decide (H k = t + 1) && C k) else C i) = true := c
    show D.2.2.2.2 (t' * 12 + i) = (if i = k then se_n N H S t k else S i)
    by_cases y : i = k
    · subst y
      rw [if_pos rfl] at e' c'
      rw [Bool.and_eq_true, decide_eq_true_eq] at c'
      have : t' = t := by omega
      subst this
      rw [if_pos rfl, h5 t' ht' i hi c'.1 c'.2]
      unfold se_n
      rw [if_pos c'.1]
    · rw [if_neg y] at e' c'
      rw [if_neg y, h5 t' ht' i hi e' c']
  · show (if i = k then t + 1 else H i) < 5
    by_cases y : i = k
    · rw [if_pos y]; omega
    · rw [if_neg y]; exact h6 i hi
theorem xp_get {post : Int32 → SX → Prop} (hC : co_re A N H S C D) {k : Nat} (ht : t < 4) (hA : A t = true) (hk : k < 12) (hf : H k = 0 ∨ H k = t + 1) (hu : H k ≠ 0 → C k = false → S k = N k)
    (h : ∀ D', co_re A N (zt_un H k (t + 1)) (upd S k (se_n N H S t k)) (zt_ub C k (decide (H k = t + 1) && C k)) D' → post (se_n N H S t k) (mk_X B V Q L D' p g)) : wpX_get post (mk_X B V Q L D p g) (nI t) (nI k) := by
  unfold wpX_get
  refine xa_open1 hC ht hA (br_f (by decide) (xa_key1 hk (br_f (by decide) (xa_free1 hC ht hk hf (br_f (by decide) ?_)))))
  have hC' := co_get hC ht hk hf
  refine And.intro (vp_in_nI hk (by decide)) (nm_r (e' := upd D.2.2.1 k (nI t)) (by rw [zt_cl (by omega), zt_by t (by omega)]) ?_)
  have es : se_n N (zt_un H k (t + 1)) (upd S k (se_n N H S t k)) t k = se_n N H S t k := by
    rw [show se_n N (zt_un H k (t + 1)) (upd S k (se_n N H S t k)) t k = (if zt_un H k (t + 1) k = t + 1 then upd S k (se_n N H S t k) k else N k) from rfl, if_pos zt_un1, pk_us]
  refine xa_seen (D := (D.1, D.2.1, upd D.2.2.1 k (nI t), D.2.2.2.1, D.2.2.2.2)) hC' ht hk (fun _ c => ?_) ?_
  · rw [pk_us]
    have c' : (if k = k then (decide (H k = t + 1) && C k) else C k) = false := c
    rw [if_pos rfl] at c'
    unfold se_n
    by_cases e : H k = t + 1
    · rw [if_pos e]
      have : C k = false := by simpa [e] using c'
      exact hu (by omega) this
    · rw [if_neg e]
  · rw [es]
    exact h _ hC'
theorem xp_getB {post : Int32 → SX → Prop} (hC : co_re A N H S C D) {k : Nat} (ht : t < 4) (hA : A t = true) (hk : k < 12) (hf : ¬ (H k = 0 ∨ H k = t + 1)) (h : post (-300000) (mk_X B V Q L D p g)) : wpX_get post (mk_X B V Q L D p g) (nI t) (nI k) := by
  unfold wpX_get
  exact xa_open1 hC ht hA (br_f (by decide) (xa_key1 hk (br_f (by decide) (xa_free0 hC ht hk hf (br_t rfl h)))))
theorem xp_get0 {post : Int32 → SX → Prop} {v1 v2 : Int32} (hC : co_re A N H S C D) (hn : ¬ (op_n A v1 ∧ ke_y v2)) (h : post (-100000) (mk_X B V Q L D p g)) : wpX_get post (mk_X B V Q L D p g) v1 v2 := by
  unfold wpX_get
  by_cases c : op_n A v1
  · obtain ⟨t, ht, rfl, hA⟩ := id c
    exact xa_open1 hC ht hA (br_f (by decide) (xa_key0 (fun q => hn ⟨c, q⟩) (br_t rfl h)))
  · exact xa_open0 hC c (br_t rfl h)
theorem xp_put {post : Int32 → SX → Prop} {v : Int32} (hC : co_re A N H S C D) {k : Nat} (ht : t < 4) (hA : A t = true) (hk : k < 12) (hv : nu_m v) (hf : H k = 0 ∨ H k = t + 1) (hu : H k ≠ 0 → C k = false → S k = N k)
    (h : ∀ D', co_re A N (zt_un H k (t + 1)) (upd S k v) (zt_ub C k true) D' → post (se_n N H S t k) (mk_X B V Q L D' p g)) : wpX_put post (mk_X B V Q L D p g) (nI t) (nI k) v := by
  unfold wpX_put
  refine xa_open1 hC ht hA (br_f (by decide) (xa_key1 hk (br_f (by decide) (xa_num1 hv (br_f (by decide) (xa_free1 hC ht hk hf (br_f (by decide) ?_)))))))
  exact xa_seen hC ht hk hu (xb_write hC ht hk hf v h)
theorem xp_putB {post : Int32 → SX → Prop} {v : Int32} (hC : co_re A N H S C D) {k : Nat} (ht : t < 4) (hA : A t = true) (hk : k < 12) (hv : nu_m v) (hf : ¬ (H k = 0 ∨ H k = t + 1)) (h : post (-300000) (mk_X B V Q L D p g)) : wpX_put post (mk_X B V Q L D p g) (nI t) (nI k) v := by
  unfold wpX_put
  exact xa_open1 hC ht hA (br_f (by decide) (xa_key1 hk (br_f (by decide) (xa_num1 hv (br_f (by decide) (xa_free0 hC ht hk hf (br_t rfl h)))))))
theorem xp_put0 {post : Int32 → SX → Prop} {v1 v2 v3 : Int32} (hC : co_re A N H S C D) (hn : ¬ (op_n A v1 ∧ ke_y v2 ∧ nu_m v3)) (h : post (-100000) (mk_X B V Q L D p g)) : wpX_put post (mk_X B V Q L D p g) v1 v2 v3 := by
  unfold wpX_put
  by_cases c : op_n A v1
  · obtain ⟨t, ht, rfl, hA⟩ := id c
    refine xa_open1 hC ht hA (br_f (by decide) ?_)
    by_cases d : ke_y v2
    · obtain ⟨k, hk, rfl⟩ := id d
      exact xa_key1 hk (br_f (by decide) (xa_num0 (fun q => hn ⟨c, d, q⟩) (br_t rfl h)))
    · exact xa_key0 d (br_t rfl h)
  · exact xa_open0 hC c (br_t rfl h)
end
end
section
/-! ===== the component's methods, the rest ===== -/
def mv_ok (A : Nat → Bool) (v1 v2 v3 : Int32) : Prop := op_n A v1 ∧ (∃ b, b < 144 ∧ v2 = nI b ∧ b % 12 ≠ b / 12) ∧ ∃ a, a ≤ 9999 ∧ v3 = nI a
theorem zi_d12 {b : Nat} (hb : b < 144) : nI b / 12 = nI (b / 12) := by rw [show (12 : Int32) = nI 12 from rfl, pk_div (by omega) (by decide) (by decide)]
theorem zi_r12 {b : Nat} (hb : b < 144) : nI b - nI b / 12 * 12 = nI (b % 12) := by rw [show (12 : Int32) = nI 12 from rfl, pk_rem (by omega) (by decide) (by decide)]
def ch_t (H : Nat → Nat) (t : Nat) : Nat → Nat
  | 0 => 0
  | k + 1 => if H k = t + 1 then ch_t H t k + 1 else ch_t H t k
def ck_K (A : Nat → Bool) (H : Nat → Nat) (m : Nat) : Nat → Bool := fun t => A t && (decide (m = 3) || hn_k H m t 12)
theorem up_cong {K K' : Nat → Bool} (h : ∀ t, t < 4 → K t = K' t) : up_K K 4 = up_K K' 4 := by
  funext t
  unfold up_K
  by_cases c : t < 4
  · rw [h t c]
  · simp [c]
theorem cn_cong {K K' : Nat → Bool} : ∀ n, (∀ t, t < n → K t = K' t) → cn_t K n = cn_t K' n
  | 0, _ => rfl
  | n + 1, h => by
    unfold cn_t
    rw [h n (by omega), cn_cong n (fun t ht => h t (by omega))]
theorem bd_kl {m : Nat} {hit : Nat → Bool} {H : Nat → Nat} (k : Nat) : bd_H m hit (fun _ => false) 4 H k = kl_H (up_K (fun t => hit t && !(fun _ => false) t) 4) H k := by
  unfold kl_H
  by_cases c : H k ≠ 0 ∧ up_K (fun t => hit t && !(fun _ => false) t) 4 (H k - 1) = true
  · rw [if_pos c]
    refine bd_H1 ⟨c.1, ?_⟩
    have c2 := c.2
    unfold up_K at c2
    rw [Bool.and_eq_true, decide_eq_true_eq, Bool.and_eq_true] at c2
    exact ⟨c2.1, c2.2.1, fun q => absurd q Bool.false_ne_true⟩
  · rw [if_neg c]
    refine bd_H0 (fun q => c ⟨q.1, ?_⟩)
    unfold up_K
    rw [Bool.and_eq_true, decide_eq_true_eq, Bool.and_eq_true]
    exact ⟨q.2.1, q.2.2.1, rfl⟩
section
variable {t : Nat} {A : Nat → Bool} {N : Nat → Int32} {H : Nat → Nat} {S : Nat → Int32} {C : Nat → Bool}
variable {B : ty_B} {V : ty_V} {Q : ty_Q} {L : ty_L} {D : ty_D} {p g : Nat → Int32}
theorem xp_move {post : Int32 → SX → Prop} {b a : Nat} (hC : co_re A N H S C D) (ht : t < 4) (hA : A t = true) (hb : b < 144) (hne : b % 12 ≠ b / 12) (ha : a ≤ 9999) (hu : ∀ k, k < 12 → H k ≠ 0 → C k = false → S k = N k)
    (hB : ¬ ((H (b % 12) = 0 ∨ H (b % 12) = t + 1) ∧ (H (b / 12) = 0 ∨ H (b / 12) = t + 1)) → post (-300000) (mk_X B V Q L D p g))
    (hF : (H (b % 12) = 0 ∨ H (b % 12) = t + 1) → (H (b / 12) = 0 ∨ H (b / 12) = t + 1) → ¬ (nu_m (se_n N H S t (b % 12) - nI a) ∧ nu_m (se_n N H S t (b / 12) + nI a)) → post (-200000) (mk_X B V Q L D p g))
    (hO : (H (b % 12) = 0 ∨ H (b % 12) = t + 1) → (H (b / 12) = 0 ∨ H (b / 12) = t + 1) → nu_m (se_n N H S t (b % 12) - nI a) → nu_m (se_n N H S t (b / 12) + nI a) →
      ∀ D', co_re A N (zt_un (zt_un H (b % 12) (t + 1)) (b / 12) (t + 1)) (upd (upd S (b % 12) (se_n N H S t (b % 12) - nI a)) (b / 12) (se_n N H S t (b / 12) + nI a)) (zt_ub (zt_ub C (b % 12) true) (b / 12) true) D' → post (se_n N H S t (b % 12) - nI a) (mk_X B V Q L D' p g)) :
    wpX_move post (mk_X B V Q L D p g) (nI t) (nI b) (nI a) := by
  have h1 : b % 12 < 12 := by omega
  have h2 : b / 12 < 12 := by omega
  unfold wpX_move
  refine xa_open1 hC ht hA (br_f (by decide) ?_)
  refine br_f (nI_pos (by omega)) (br_f (nI_ge (b := 144) hb (by decide)) (And.intro (by decide) (And.intro (by decide) ?_)))
  rw [zi_r12 hb, zi_d12 hb]
  refine br_f (zt_ne hne (by omega) (by omega)) (br_f (nI_pos (by omega)) (br_t (nI_le (b := 9999) ha (by decide)) ?_))
  refine And.intro (by decide) (nm_e (And.intro (by decide) (nm_e ?_)))
  by_cases f1 : H (b % 12) = 0 ∨ H (b % 12) = t + 1
  · refine xa_free1 hC ht h1 f1 (br_f (by decide) ?_)
    by_cases f2 : H (b / 12) = 0 ∨ H (b / 12) = t + 1
    · refine xa_free1 hC ht h2 f2 (br_f (by decide) ?_)
      refine xa_seen hC ht h1 (hu _ h1) (nm_e (xa_seen hC ht h2 (hu _ h2) (nm_e ?_)))
      by_cases n1 : nu_m (se_n N H S t (b % 12) - nI a)
      · refine xa_num1 n1 (br_f (by decide) ?_)
        by_cases n2 : nu_m (se_n N H S t (b / 12) + nI a)
        · refine xa_num1 n2 (br_f (by decide) ?_)
          refine xb_write hC ht h1 f1 _ (fun D1 hD1 => ?_)
          refine xb_write hD1 ht h2 ?_ _ (fun D2 hD2 => hO f1 f2 n1 n2 D2 hD2)
          rw [zt_un0 (fun q => hne q.symm)]
          exact f2
        · exact xa_num0 n2 (br_t rfl (hF f1 f2 (fun q => n2 q.2)))
      · exact xa_num0 n1 (br_t rfl (hF f1 f2 (fun q => n1 q.1)))
    · exact xa_free0 hC ht h2 f2 (br_t rfl (hB (fun q => f2 q.2)))
  · exact xa_free0 hC ht h1 f1 (br_t rfl (hB (fun q => f1 q.1)))
theorem xp_move0 {post : Int32 → SX → Prop} {v1 v2 v3 : Int32} (hC : co_re A N H S C D) (hn : ¬ mv_ok A v1 v2 v3) (h : post (-100000) (mk_X B V Q L D p g)) : wpX_move post (mk_X B V Q L D p g) v1 v2 v3 := by
  unfold wpX_move
  by_cases c : op_n A v1
  · obtain ⟨t, ht, rfl, hA⟩ := id c
    refine xa_open1 hC ht hA (br_f (by decide) (br_c (fun _ => h) (fun z1 => br_c (fun _ => h) (fun z2 => And.intro (by decide) (And.intro (by decide) (br_c (fun _ => h) (fun z3 => br_c (fun _ => h) (fun z4 => br_c (fun z5 => ?_) (fun _ => h)))))))))
    obtain ⟨b, hb, rfl⟩ := nI_of z1
    obtain ⟨a, ha, rfl⟩ := nI_of z4
    rw [show (144 : Int32) = nI 144 from rfl, nI_leI (by decide) hb] at z2
    rw [show (9999 : Int32) = nI 9999 from rfl, nI_leI ha (by decide)] at z5
    rw [zi_r12 (by omega), zi_d12 (by omega), nI_eq (by omega) (by omega)] at z3
    exact absurd ⟨c, ⟨b, by omega, rfl, z3⟩, ⟨a, z5, rfl⟩⟩ hn
  · exact xa_open0 hC c (br_t rfl h)
theorem xp_abort {post : Int32 → SX → Prop} (hC : co_re A N H S C D) (ht : t < 4) (hA : A t = true)
    (h : ∀ D', co_re (kl_A (kl_1 t) A) N (kl_H (kl_1 t) H) S C D' → post (nI (ch_t H t 12)) (mk_X B V Q L D' (pr_0 t p) g)) : wpX_abort post (mk_X B V Q L D p g) (nI t) := by
  have go : ∀ r k f, k + r = 12 → r < f → wX_abort_15 post (nI t) D.1 V.1 V.2.1 V.2.2.1 B.1 B.2.1 B.2.2.1 B.2.2.2.1 B.2.2.2.2.1 B.2.2.2.2.2.1 V.2.2.2 B.2.2.2.2.2.2 Q.1 Q.2.1 Q.2.2.1 Q.2.2.2.1 L.1 L.2.1 L.2.2.1 L.2.2.2.1 L.2.2.2.2.1 L.2.2.2.2.2 D.2.1 D.2.2.1 D.2.2.2.1 D.2.2.2.2 p g Q.2.2.2.2.1 Q.2.2.2.2.2.1 Q.2.2.2.2.2.2.1 Q.2.2.2.2.2.2.2 f (nI (ch_t H t k)) (nI k) := by
    intro r
    induction r with
    | zero =>
      intro k f hk hf
      cases f with
      | zero => omega
      | succ f =>
        have : k = 12 := by omega
        subst this
        exact br_t (zt_ge12 (by omega) (by omega)) (xb_roll ht hC h)
    | succ r ih =>
      intro k f hk hf
      cases f with
      | zero => omega
      | succ f =>
        have hk12 : k < 12 := by omega
        have e : D.2.2.1 (nI k).toNatClampNeg = zt_hv (H k) := by rw [zt_cl (by omega)]; exact hC.2.2.1 k hk12
        have := ih (k + 1) f (by omega) (by omega)
        refine br_f (zt_le12 hk12) (And.intro (vp_in_nI hk12 (by decide)) ?_)
        rw [e]
        refine ek_if2 (zt_hv_t _ (hC.2.2.2.2.2 k hk12) t ht) (fun z => ?_) (fun z => ?_)
        · have ec : ch_t H t (k + 1) = ch_t H t k + 1 := if_pos z
          rw [ec] at this
          exact nm_r (nI_1 _) (nm_r (nI_1 k) this)
        · have ec : ch_t H t (k + 1) = ch_t H t k := if_neg z
          rw [ec] at this
          exact nm_r (Int32.add_zero _) (nm_r (nI_1 k) this)
  unfold wpX_abort
  exact xa_open1 hC ht hA (br_f (by decide) (Exists.intro 13 (go 12 0 13 (by omega) (by omega))))
theorem xp_abort0 {post : Int32 → SX → Prop} {v1 : Int32} (hC : co_re A N H S C D) (hn : ¬ op_n A v1) (h : post (-100000) (mk_X B V Q L D p g)) : wpX_abort post (mk_X B V Q L D p g) v1 := by
  unfold wpX_abort
  exact xa_open0 hC hn (br_t rfl h)
theorem xp_crash {post : Int32 → SX → Prop} {m nm : Nat} (hC : co_re A N H S C D) (hL : il_g L nm N) (hV : V.1 = 0) (hHA : ∀ k, k < 12 → H k ≠ 0 → A (H k - 1) = true) (hm : m < 4) (hp : ∀ j, j < 12 → p j = 0)
    (h : ∀ D' p' g', co_re (kl_A (up_K (ck_K A H m) 4) A) N (kl_H (up_K (ck_K A H m) 4) H) S C D' → (∀ j, j < 12 → p' j = 0) → (∀ j, g' j = g j) → post (nI (cn_t (ck_K A H m) 4)) (mk_X B V Q L D' p' g')) :
    wpX_crash post (mk_X B V Q L D p g) (nI m) := by
  refine br_f (nI_pos (by omega)) (br_t (nI_le (b := 3) (by omega) (by decide)) ?_)
  refine pk_eq (x := nI m) (y := 3) m 3 (fun z => ?_) (fun z => ?_) rfl rfl
  · have hK : ∀ t, t < 4 → (fun t => A t && !(fun _ => false) t) t = ck_K A H m t := by
      intro t _
      unfold ck_K
      simp [z]
    rw [← up_cong hK, ← cn_cong 4 hK] at h
    refine Exists.intro 5 (xd_bl (A := A) (N := N) (S := S) (C := C) (ex := fun _ => false) p H (fun i _ q => absurd q (by decide)) (fun i _ _ => Or.inl hV) (fun f D' p' hC' hP' => ?_) 4 0 5 D p (by omega) (by omega) ?_ (fun j => ?_))
    · refine br_t (nI_le (a := 4) (b := 4) (by decide) (by decide)) (br_t hV (h D' p' g hC' (fun j hj => ?_) (fun _ => rfl)))
      rw [hP' j, hp j hj]
      split <;> rfl
    · refine co_cong hC (fun i hi => ?_) (fun _ _ => rfl) (fun k hk => ?_) (fun _ _ _ => rfl) (fun _ _ _ => rfl)
      · unfold kl_A up_K; simp
      · unfold kl_H up_K; simp
    · unfold up_K; simp
  · have hm3 : m < 3 := by omega
    have hK : ∀ t, t < 4 → (fun t => (fun i => hn_k H m i 12) t && !(fun _ => false) t) t = ck_K A H m t := by
      intro t _
      unfold ck_K
      simp only [z, decide_false, Bool.false_or, Bool.not_false, Bool.and_true]
      cases hh : hn_k H m t 12
      · simp
      · rw [hn_iff] at hh
        obtain ⟨k, a, b, c⟩ := hh
        have := hHA k a (by omega)
        rw [c] at this
        rw [show t + 1 - 1 = t from rfl] at this
        rw [this]; rfl
    rw [← up_cong hK, ← cn_cong 4 hK] at h
    unfold wpX_breakDown
    refine xb_hold hC hm3 (fun y hy => ?_)
    refine Exists.intro 5 (xd_lp (A := A) (N := N) (S := S) (C := C) (hit := fun i => hn_k H m i 12) (ex := fun _ => false) p g H hm3 (fun i hi => ?_) (fun i _ q => absurd q (by decide)) (fun i _ _ => Or.inl hV) (fun f D' p' g' hC' hP' hG' => ?_) 4 0 5 D p g (by omega) (by omega) ?_ (fun j => ?_) (fun j => ?_))
    · rw [hy i (by omega)]
      simp [hi]
    · obtain ⟨n, l1, l2⟩ := hL.1 m hm3
      refine br_t (nI_le (a := 4) (b := 4) (by decide) (by decide)) (xl_cb0 hm3 (by omega) hC' l2 (fun D'' hD'' => h D'' p' g' (co_cong hD'' (fun _ _ => rfl) (fun _ _ => rfl) (fun k _ => (bd_kl k).symm) (fun _ _ _ => rfl) (fun _ _ _ => rfl)) (fun j hj => ?_) (fun j => ?_)))
      · rw [hP' j]
        by_cases c : bd_q m (fun i => hn_k H m i 12) (fun _ => false) 4 (j / 3) (j % 3)
        · exact bd_P1 c
        · rw [bd_P0 c]; exact hp j hj
      · rw [hG' j]
        exact bd_G0 (fun q => absurd q.2.2.1 (by decide))
    · refine co_cong hC (fun i hi => ?_) (fun _ _ => rfl) (fun k hk => ?_) (fun _ _ _ => rfl) (fun _ _ _ => rfl)
      · unfold kl_A up_K; simp
      · exact bd_H0 (fun q => absurd q.2.1 (Nat.not_lt_zero _))
    · exact (bd_P0 (fun q => absurd q.1 (Nat.not_lt_zero _))).symm
    · exact (bd_G0 (fun q => absurd q.1 (Nat.not_lt_zero _))).symm
theorem xp_crash0 {post : Int32 → SX → Prop} {v1 : Int32} (hn : ¬ ∃ m, m < 4 ∧ v1 = nI m) (h : post (-100000) (mk_X B V Q L D p g)) : wpX_crash post (mk_X B V Q L D p g) v1 := by
  refine br_c (fun _ => h) (fun z => br_c (fun y => ?_) (fun _ => h))
  obtain ⟨m, hm, rfl⟩ := nI_of z
  rw [show (3 : Int32) = nI 3 from rfl, nI_leI hm (by decide)] at y
  exact absurd ⟨m, by omega, rfl⟩ hn
theorem xp_peek {post : Int32 → Prop} (hC : co_re A N H S C D) {k : Nat} (hk : k < 12) (h : post (N k)) : wpX_peek post (mk_X B V Q L D p g) (nI k) := by
  unfold wpX_peek
  refine xa_key1 hk (br_f (by decide) (And.intro (vp_in_nI hk (by decide)) ?_))
  rw [zt_cl (by omega)]
  show post (D.2.1 k)
  rw [hC.2.1 k hk]; exact h
theorem xp_peek0 {post : Int32 → Prop} {v : Int32} (hn : ¬ ke_y v) (h : post (-100000)) : wpX_peek post (mk_X B V Q L D p g) v := by
  unfold wpX_peek
  exact xa_key0 hn (br_t rfl h)
theorem xp_holder {post : Int32 → Prop} (hC : co_re A N H S C D) {k : Nat} (hk : k < 12) (h : post (if H k = 0 then -200000 else nI (H k - 1))) : wpX_holder post (mk_X B V Q L D p g) (nI k) := by
  unfold wpX_holder
  have e : D.2.2.1 (nI k).toNatClampNeg = zt_hv (H k) := by rw [zt_cl (by omega)]; exact hC.2.2.1 k hk
  refine xa_key1 hk (br_f (by decide) (And.intro (vp_in_nI hk (by decide)) ?_))
  show (D.2.2.1 (nI k).toNatClampNeg = (-1) → _) ∧ (¬ D.2.2.1 (nI k).toNatClampNeg = (-1) → _ ∧ post (D.2.2.1 (nI k).toNatClampNeg))
  rw [e]
  refine ek_if2 (zt_hv_m _ (hC.2.2.2.2.2 k hk)) (fun z => ?_) (fun z => And.intro (vp_in_nI hk (by decide)) ?_)
  · rw [if_pos z] at h; exact h
  · rw [if_neg z] at h
    unfold zt_hv
    rw [if_neg z]; exact h
theorem xp_holder0 {post : Int32 → Prop} {v : Int32} (hn : ¬ ke_y v) (h : post (-100000)) : wpX_holder post (mk_X B V Q L D p g) v := by
  unfold wpX_holder
  exact xa_key0 hn (br_t rfl h)
theorem xp_keys {post : Int32 → Prop} (hC : co_re A N H S C D) (ht : t < 4) (hA : A t = true) (h : ∀ y, (∀ i, i < 32 → bt y i = (decide (i < 12) && decide (H i = t + 1))) → post y) : wpX_keys post (mk_X B V Q L D p g) (nI t) := by
  have go : ∀ r k f x, k + r = 12 → r < f → (∀ i, i < 32 → bt x i = (decide (i < k) && decide (H i = t + 1))) → wX_keys_14 post (nI t) D.1 V.1 V.2.1 V.2.2.1 B.1 B.2.1 B.2.2.1 B.2.2.2.1 B.2.2.2.2.1 B.2.2.2.2.2.1 V.2.2.2 B.2.2.2.2.2.2 Q.1 Q.2.1 Q.2.2.1 Q.2.2.2.1 L.1 L.2.1 L.2.2.1 L.2.2.2.1 L.2.2.2.2.1 L.2.2.2.2.2 D.2.1 D.2.2.1 D.2.2.2.1 D.2.2.2.2 p g Q.2.2.2.2.1 Q.2.2.2.2.2.1 Q.2.2.2.2.2.2.1 Q.2.2.2.2.2.2.2 f x (nI k) := by
    intro r
    induction r with
    | zero =>
      intro k f x hk hf hx
      cases f with
      | zero => omega
      | succ f =>
        have : k = 12 := by omega
        subst this
        exact br_t (zt_ge12 (by omega) (by omega)) (h x hx)
    | succ r ih =>
      intro k f x hk hf hx
      cases f with
      | zero => omega
      | succ f =>
        have hk12 : k < 12 := by omega
        have e : D.2.2.1 (nI k).toNatClampNeg = zt_hv (H k) := by rw [zt_cl (by omega)]; exact hC.2.2.1 k hk12
        refine br_f (zt_le12 hk12) (And.intro (vp_in_nI hk12 (by decide)) ?_)
        rw [e]
        refine ek_if2 (zt_hv_t _ (hC.2.2.2.2.2 k hk12) t ht) (fun z => nm_e (nm_r (nI_1 k) (ih (k + 1) f _ (by omega) (by omega) (fun i hi => ?_)))) (fun z => nm_e (nm_r (nI_1 k) (ih (k + 1) f _ (by omega) (by omega) (fun i hi => ?_))))
        · rw [zt_set _ (by omega) hi, hx i hi]
          by_cases q : i = k
          · subst q; simp [z]
          · have : (i < k + 1) = (i < k) := by apply propext; omega
            simp only [this]
            simp [q]
        · rw [b_or, b_0, hx i hi]
          by_cases q : i = k
          · subst q; simp [z]
          · have : (i < k + 1) = (i < k) := by apply propext; omega
            simp only [this]
            simp
  unfold wpX_keys
  refine xa_open1 hC ht hA (br_f (by decide) (Exists.intro 13 (go 12 0 13 0 (by omega) (by omega) (fun i hi => ?_))))
  rw [b_0]; simp
theorem xp_keys0 {post : Int32 → Prop} {v : Int32} (hC : co_re A N H S C D) (hn : ¬ op_n A v) (h : post 0) : wpX_keys post (mk_X B V Q L D p g) v := by
  unfold wpX_keys
  exact xa_open0 hC hn (br_t rfl h)
theorem xp_written {post : Int32 → Prop} (hC : co_re A N H S C D) (ht : t < 4) (hA : A t = true) (h : ∀ y, (∀ i, i < 32 → bt y i = (decide (i < 12) && (decide (H i = t + 1) && C i))) → post y) : wpX_written post (mk_X B V Q L D p g) (nI t) := by
  unfold wpX_written
  refine xa_open1 hC ht hA (br_f (by decide) (And.intro (vp_in_nI ht (by decide)) ?_))
  rw [zt_cl (by omega)]
  exact h _ (hC.2.2.2.1 t ht)
theorem xp_written0 {post : Int32 → Prop} {v : Int32} (hC : co_re A N H S C D) (hn : ¬ op_n A v) (h : post 0) : wpX_written post (mk_X B V Q L D p g) v := by
  unfold wpX_written
  exact xa_open0 hC hn (br_t rfl h)
theorem xp_sum {post : Int32 → Prop} (hC : co_re A N H S C D) {m : Nat} (hm : m < 3) (h : post (0 + N m + N (m + 3) + N (m + 3 + 3) + N (m + 3 + 3 + 3))) : wpX_sum post (mk_X B V Q L D p g) (nI m) := by
  have st : ∀ k, k < 12 → ∀ x f, wX_sum_16 post D.1 V.1 V.2.1 V.2.2.1 B.1 B.2.1 B.2.2.1 B.2.2.2.1 B.2.2.2.2.1 B.2.2.2.2.2.1 V.2.2.2 B.2.2.2.2.2.2 Q.1 Q.2.1 Q.2.2.1 Q.2.2.2.1 L.1 L.2.1 L.2.2.1 L.2.2.2.1 L.2.2.2.2.1 L.2.2.2.2.2 D.2.1 D.2.2.1 D.2.2.2.1 D.2.2.2.2 p g Q.2.2.2.2.1 Q.2.2.2.2.2.1 Q.2.2.2.2.2.2.1 Q.2.2.2.2.2.2.2 f (x + N k) (nI (k + 3)) → wX_sum_16 post D.1 V.1 V.2.1 V.2.2.1 B.1 B.2.1 B.2.2.1 B.2.2.2.1 B.2.2.2.2.1 B.2.2.2.2.2.1 V.2.2.2 B.2.2.2.2.2.2 Q.1 Q.2.1 Q.2.2.1 Q.2.2.2.1 L.1 L.2.1 L.2.2.1 L.2.2.2.1 L.2.2.2.2.1 L.2.2.2.2.2 D.2.1 D.2.2.1 D.2.2.2.1 D.2.2.2.2 p g Q.2.2.2.2.1 Q.2.2.2.2.2.1 Q.2.2.2.2.2.2.1 Q.2.2.2.2.2.2.2 (f + 1) x (nI k) := by
    intro k hk x f q
    refine br_f (zt_le12 hk) (And.intro (vp_in_nI hk (by decide)) ?_)
    rw [zt_cl (by omega)]
    refine nm_r (e' := x + N k) (by show x + D.2.1 k = _; rw [hC.2.1 k hk]) (nm_r (zi_p3 k) q)
  refine br_f (nI_pos (by omega)) (br_t (nI_lt (b := 3) hm (by decide)) (Exists.intro 5 ?_))
  exact st m (by omega) _ 4 (st (m + 3) (by omega) _ 3 (st (m + 3 + 3) (by omega) _ 2 (st (m + 3 + 3 + 3) (by omega) _ 1 (br_t (zt_ge12 (by omega) (by omega)) h))))
theorem xp_sum0 {post : Int32 → Prop} {v : Int32} (hn : ¬ ∃ m, m < 3 ∧ v = nI m) (h : post (-100000)) : wpX_sum post (mk_X B V Q L D p g) v := by
  refine br_c (fun _ => h) (fun z => br_c (fun y => ?_) (fun _ => h))
  obtain ⟨m, hm, rfl⟩ := nI_of z
  rw [show (3 : Int32) = nI 3 from rfl, nI_ltI hm (by decide)] at y
  exact absurd ⟨m, y, rfl⟩ hn
theorem xp_total {post : Int32 → Prop} (hC : co_re A N H S C D) (h : post (0 + N 0 + N 1 + N 2 + N 3 + N 4 + N 5 + N 6 + N 7 + N 8 + N 9 + N 10 + N 11)) : wpX_total post (mk_X B V Q L D p g) := by
  have st : ∀ k, k < 12 → ∀ x f, wX_total_4 post D.1 V.1 V.2.1 V.2.2.1 B.1 B.2.1 B.2.2.1 B.2.2.2.1 B.2.2.2.2.1 B.2.2.2.2.2.1 V.2.2.2 B.2.2.2.2.2.2 Q.1 Q.2.1 Q.2.2.1 Q.2.2.2.1 L.1 L.2.1 L.2.2.1 L.2.2.2.1 L.2.2.2.2.1 L.2.2.2.2.2 D.2.1 D.2.2.1 D.2.2.2.1 D.2.2.2.2 p g Q.2.2.2.2.1 Q.2.2.2.2.2.1 Q.2.2.2.2.2.2.1 Q.2.2.2.2.2.2.2 f (x + N k) (nI (k + 1)) → wX_total_4 post D.1 V.1 V.2.1 V.2.2.1 B.1 B.2.1 B.2.2.1 B.2.2.2.1 B.2.2.2.2.1 B.2.2.2.2.2.1 V.2.2.2 B.2.2.2.2.2.2 Q.1 Q.2.1 Q.2.2.1 Q.2.2.2.1 L.1 L.2.1 L.2.2.1 L.2.2.2.1 L.2.2.2.2.1 L.2.2.2.2.2 D.2.1 D.2.2.1 D.2.2.2.1 D.2.2.2.2 p g Q.2.2.2.2.1 Q.2.2.2.2.2.1 Q.2.2.2.2.2.2.1 Q.2.2.2.2.2.2.2 (f + 1) x (nI k) := by
    intro k hk x f q
    refine br_f (zt_le12 hk) (And.intro (vp_in_nI hk (by decide)) ?_)
    rw [zt_cl (by omega)]
    refine nm_r (e' := x + N k) (by show x + D.2.1 k = _; rw [hC.2.1 k hk]) (nm_r (nI_1 k) q)
  refine Exists.intro 13 ?_
  exact st 0 (by omega) _ 12 (st 1 (by omega) _ 11 (st 2 (by omega) _ 10 (st 3 (by omega) _ 9 (st 4 (by omega) _ 8 (st 5 (by omega) _ 7 (st 6 (by omega) _ 6 (st 7 (by omega) _ 5 (st 8 (by omega) _ 4 (st 9 (by omega) _ 3 (st 10 (by omega) _ 2 (st 11 (by omega) _ 1 (br_t (zt_ge12 (by omega) (by omega)) h))))))))))))
end
end
section
/-! ===== the reference ===== -/
def ry_Y (A : Nat → Bool) (N : Nat → Int32) (H : Nat → Nat) (S : Nat → Int32) (C : Nat → Bool) (yn yh ys yc ya : Nat → Int32) : Prop :=
  (∀ k, k < 12 → yn k = N k) ∧ (∀ k, k < 12 → yh k = nI (H k)) ∧ (∀ k, k < 12 → H k ≠ 0 → ys k = S k) ∧ (∀ k, k < 12 → H k ≠ 0 → yc k = zt_bI (C k)) ∧ (∀ t, t < 4 → ya t = zt_bI (A t)) ∧ (∀ k, k < 12 → H k < 5)
theorem ry_cong {A A' : Nat → Bool} {N N' : Nat → Int32} {H H' : Nat → Nat} {S S' : Nat → Int32} {C C' : Nat → Bool} {yn yh ys yc ya : Nat → Int32} (h : ry_Y A N H S C yn yh ys yc ya)
    (hA : ∀ i, i < 4 → A' i = A i) (hN : ∀ k, k < 12 → N' k = N k) (hH : ∀ k, k < 12 → H' k = H k) (hS : ∀ k, k < 12 → H k ≠ 0 → S' k = S k) (hC : ∀ k, k < 12 → H k ≠ 0 → C' k = C k) : ry_Y A' N' H' S' C' yn yh ys yc ya := by
  obtain ⟨h1, h2, h3, h4, h5, h6⟩ := h
  refine ⟨fun k hk => by rw [hN k hk]; exact h1 k hk, fun k hk => by rw [hH k hk]; exact h2 k hk, fun k hk e => ?_, fun k hk e => ?_, fun t ht => by rw [hA t ht]; exact h5 t ht, fun k hk => by rw [hH k hk]; exact h6 k hk⟩
  · rw [hH k hk] at e
    rw [hS k hk e]; exact h3 k hk e
  · rw [hH k hk] at e
    rw [hC k hk e]; exact h4 k hk e
section
variable {t : Nat} {A : Nat → Bool} {N : Nat → Int32} {H : Nat → Nat} {S : Nat → Int32} {C : Nat → Bool}
variable {dn : Int32} {yn yh ys yc ya : Nat → Int32}
theorem yo_open1 {post : Int32 → Prop} (hR : ry_Y A N H S C yn yh ys yc ya) (ht : t < 4) (hA : A t = true) (h : post 1) : wpY_isOpen post (dn, yn, yh, ys, yc, ya) (nI t) := by
  refine br_f (nI_pos (by omega)) (br_f (nI_nlt (b := t) (a := 3) (by omega) (by decide)) (And.intro (vp_in_nI ht (by decide)) ?_))
  rw [zt_cl (by omega)]
  refine br_f ?_ h
  rw [hR.2.2.2.2.1 t ht, hA]; decide
theorem yo_open0 {post : Int32 → Prop} (hR : ry_Y A N H S C yn yh ys yc ya) {x : Int32} (hx : ¬ op_n A x) (h : post 0) : wpY_isOpen post (dn, yn, yh, ys, yc, ya) x := by
  refine br_c (fun _ => h) (fun z => br_c (fun _ => h) (fun y => ?_))
  obtain ⟨t, ht, rfl⟩ := nI_of z
  rw [show (3 : Int32) = nI 3 from rfl, nI_ltI (by decide) ht] at y
  refine And.intro (vp_in_nI (by omega) (by decide)) ?_
  rw [zt_cl (by omega)]
  refine br_t ?_ h
  rw [hR.2.2.2.2.1 t (by omega)]
  cases hA : A t
  · rfl
  · exact absurd ⟨t, by omega, rfl, hA⟩ hx
theorem yo_key1 {post : Int32 → Prop} {k : Nat} (hk : k < 12) (h : post 1) : wpY_key post (dn, yn, yh, ys, yc, ya) (nI k) :=
  br_f (nI_pos (by omega)) (br_f (nI_nlt (b := k) (a := 11) (by omega) (by decide)) h)
theorem yo_key0 {post : Int32 → Prop} {x : Int32} (hx : ¬ ke_y x) (h : post 0) : wpY_key post (dn, yn, yh, ys, yc, ya) x := by
  refine br_c (fun _ => h) (fun z => br_t ?_ h)
  obtain ⟨k, hk, rfl⟩ := nI_of z
  rw [show (11 : Int32) = nI 11 from rfl, nI_ltI (by decide) hk]
  rcases Nat.lt_or_ge k 12 with q | q
  · exact absurd ⟨k, q, rfl⟩ hx
  · omega
theorem yo_fit1 {post : Int32 → Prop} {x : Int32} (hx : nu_m x) (h : post 1) : wpY_fits post (dn, yn, yh, ys, yc, ya) x :=
  br_f (fun z => absurd ((nu_lo x).mp z) (by have := hx.1; omega)) (br_f (fun z => absurd ((nu_hi x).mp z) (by have := hx.2; omega)) h)
theorem yo_fit0 {post : Int32 → Prop} {x : Int32} (hx : ¬ nu_m x) (h : post 0) : wpY_fits post (dn, yn, yh, ys, yc, ya) x := by
  refine br_c (fun _ => h) (fun z => br_t ?_ h)
  rw [nu_lo] at z
  rw [nu_hi]
  have : ¬ (-9999 ≤ x.toInt ∧ x.toInt ≤ 9999) := hx
  omega
theorem yo_busy0 {post : Int32 → Prop} (hR : ry_Y A N H S C yn yh ys yc ya) {k : Nat} (ht : t < 4) (hk : k < 12) (hf : H k = 0 ∨ H k = t + 1) (h : post 0) : wpY_busy post (dn, yn, yh, ys, yc, ya) (nI t) (nI k) := by
  have h5 := hR.2.2.2.2.2 k hk
  refine And.intro (vp_in_nI hk (by decide)) ?_
  rw [zt_cl (by omega), hR.2.1 k hk]
  refine pk_eq (x := nI (H k)) (y := 0) (H k) 0 (fun _ => h) (fun z => And.intro (vp_in_nI hk (by decide)) ?_) rfl rfl
  exact pk_eq (x := nI (H k)) (y := nI t + 1) (H k) (t + 1) (fun _ => h) (fun y => by omega) rfl (nI_1 t)
theorem yo_busy1 {post : Int32 → Prop} (hR : ry_Y A N H S C yn yh ys yc ya) {k : Nat} (ht : t < 4) (hk : k < 12) (hf : ¬ (H k = 0 ∨ H k = t + 1)) (h : post 1) : wpY_busy post (dn, yn, yh, ys, yc, ya) (nI t) (nI k) := by
  have h5 := hR.2.2.2.2.2 k hk
  refine And.intro (vp_in_nI hk (by decide)) ?_
  rw [zt_cl (by omega), hR.2.1 k hk]
  refine pk_eq (x := nI (H k)) (y := 0) (H k) 0 (fun z => by omega) (fun z => And.intro (vp_in_nI hk (by decide)) ?_) rfl rfl
  exact pk_eq (x := nI (H k)) (y := nI t + 1) (H k) (t + 1) (fun y => by omega) (fun y => h) rfl (nI_1 t)
theorem yo_sees {post : Int32 → Prop} (hR : ry_Y A N H S C yn yh ys yc ya) {k : Nat} (ht : t < 4) (hk : k < 12) (h : post (se_n N H S t k)) : wpY_sees post (dn, yn, yh, ys, yc, ya) (nI t) (nI k) := by
  have h5 := hR.2.2.2.2.2 k hk
  refine And.intro (vp_in_nI hk (by decide)) ?_
  rw [zt_cl (by omega), hR.2.1 k hk]
  refine pk_eq (x := nI (H k)) (y := nI t + 1) (H k) (t + 1) (fun z => And.intro (vp_in_nI hk (by decide)) ?_) (fun z => And.intro (vp_in_nI hk (by decide)) ?_) rfl (nI_1 t)
  · rw [hR.2.2.1 k hk (by omega)]
    unfold se_n at h
    rw [if_pos z] at h
    exact h
  · rw [hR.1 k hk]
    unfold se_n at h
    rw [if_neg z] at h
    exact h
theorem yo_hold {post : SY → Prop} (hR : ry_Y A N H S C yn yh ys yc ya) {k : Nat} (ht : t < 4) (hk : k < 12) (hf : H k = 0 ∨ H k = t + 1)
    (h : ∀ yh' ys' yc', ry_Y A N (zt_un H k (t + 1)) (upd S k (se_n N H S t k)) (zt_ub C k (decide (H k = t + 1) && C k)) yn yh' ys' yc' ya → post (dn, yn, yh', ys', yc', ya)) : wpY_hold post (dn, yn, yh, ys, yc, ya) (nI t) (nI k) := by
  obtain ⟨h1, h2, h3, h4, h5, h6⟩ := id hR
  have hv : vp_in (nI k) 12 := vp_in_nI hk (by decide)
  have hk5 := h6 k hk
  refine And.intro hv ?_
  rw [zt_cl (by omega), h2 k hk]
  refine pk_eq (x := nI (H k)) (y := 0) (H k) 0 (fun z => ?_) (fun z => ?_) rfl rfl
  · refine And.intro hv (nm_r (e' := upd yh k (nI (t + 1))) (by rw [nI_1]) (And.intro hv (And.intro hv (nm_e (And.intro hv (nm_r (e' := upd yc k 0) rfl (h _ _ _ ?_)))))))
    refine ⟨h1, fun i hi => ?_, fun i hi e => ?_, fun i hi e => ?_, h5, fun i hi => ?_⟩
    · unfold upd zt_un
      by_cases c : i = k
      · rw [if_pos c, if_pos c]
      · rw [if_neg c, if_neg c]; exact h2 i hi
    · unfold upd
      by_cases c : i = k
      · rw [if_pos c, if_pos c]
        unfold se_n
        rw [if_neg (by omega)]
        exact h1 k hk
      · rw [if_neg c, if_neg c]
        rw [zt_un0 c] at e
        exact h3 i hi e
    · unfold upd zt_ub
      by_cases c : i = k
      · rw [if_pos c, if_pos c]
        have : ¬ H k = t + 1 := by omega
        simp [this, zt_bI]
      · rw [if_neg c, if_neg c]
        rw [zt_un0 c] at e
        exact h4 i hi e
    · unfold zt_un
      by_cases c : i = k
      · rw [if_pos c]; omega
      · rw [if_neg c]; exact h6 i hi
  · have e : H k = t + 1 := by omega
    refine h yh ys yc (ry_cong hR (fun _ _ => rfl) (fun _ _ => rfl) (fun i hi => ?_) (fun i hi _ => ?_) (fun i hi _ => ?_))
    · unfold zt_un
      by_cases c : i = k
      · rw [if_pos c, c, e]
      · rw [if_neg c]
    · unfold upd
      by_cases c : i = k
      · rw [if_pos c, c]
        unfold se_n
        rw [if_pos e]
      · rw [if_neg c]
    · unfold zt_ub
      by_cases c : i = k
      · rw [if_pos c, c, e]; simp
      · rw [if_neg c]
theorem yo_get {post : Int32 → SY → Prop} (hR : ry_Y A N H S C yn yh ys yc ya) {k : Nat} (ht : t < 4) (hA : A t = true) (hk : k < 12) (hf : H k = 0 ∨ H k = t + 1)
    (h : ∀ yh' ys' yc', ry_Y A N (zt_un H k (t + 1)) (upd S k (se_n N H S t k)) (zt_ub C k (decide (H k = t + 1) && C k)) yn yh' ys' yc' ya → post (se_n N H S t k) (dn, yn, yh', ys', yc', ya)) : wpY_get post (dn, yn, yh, ys, yc, ya) (nI t) (nI k) := by
  unfold wpY_get
  refine yo_open1 hR ht hA (br_f (by decide) (yo_key1 hk (br_f (by decide) (yo_busy0 hR ht hk hf (br_t rfl ?_)))))
  refine yo_hold hR ht hk hf (fun yh' ys' yc' hR' => And.intro (vp_in_nI hk (by decide)) ?_)
  have e : ys' (nI k).toNatClampNeg = se_n N H S t k := by
    rw [zt_cl (by omega), hR'.2.2.1 k hk (by rw [zt_un1]; omega), pk_us]
  show post (ys' (nI k).toNatClampNeg) _
  rw [e]
  exact h yh' ys' yc' hR'
theorem yo_getB {post : Int32 → SY → Prop} (hR : ry_Y A N H S C yn yh ys yc ya) {k : Nat} (ht : t < 4) (hA : A t = true) (hk : k < 12) (hf : ¬ (H k = 0 ∨ H k = t + 1)) (h : post (-300000) (dn, yn, yh, ys, yc, ya)) : wpY_get post (dn, yn, yh, ys, yc, ya) (nI t) (nI k) := by
  unfold wpY_get
  exact yo_open1 hR ht hA (br_f (by decide) (yo_key1 hk (br_f (by decide) (yo_busy1 hR ht hk hf (br_f (by decide) h)))))
theorem yo_get0 {post : Int32 → SY → Prop} {v1 v2 : Int32} (hR : ry_Y A N H S C yn yh ys yc ya) (hn : ¬ (op_n A v1 ∧ ke_y v2)) (h : post (-100000) (dn, yn, yh, ys, yc, ya)) : wpY_get post (dn, yn, yh, ys, yc, ya) v1 v2 := by
  unfold wpY_get
  by_cases c : op_n A v1
  · obtain ⟨t, ht, rfl, hA⟩ := id c
    exact yo_open1 hR ht hA (br_f (by decide) (yo_key0 (fun q => hn ⟨c, q⟩) (br_t rfl h)))
  · exact yo_open0 hR c (br_t rfl h)
theorem nu_nb {x : Int32} (h : nu_m x) : ¬ x = -300000 := by
  rintro rfl
  have := h.1
  rw [show (-300000 : Int32).toInt = -300000 from by decide] at this
  omega
theorem yo_put {post : Int32 → SY → Prop} {v : Int32} (hR : ry_Y A N H S C yn yh ys yc ya) {k : Nat} (ht : t < 4) (hA : A t = true) (hk : k < 12) (hv : nu_m v) (hf : H k = 0 ∨ H k = t + 1) (hs : nu_m (se_n N H S t k))
    (h : ∀ yh' ys' yc', ry_Y A N (zt_un H k (t + 1)) (upd S k v) (zt_ub C k true) yn yh' ys' yc' ya → post (se_n N H S t k) (dn, yn, yh', ys', yc', ya)) : wpY_put post (dn, yn, yh, ys, yc, ya) (nI t) (nI k) v := by
  unfold wpY_put
  refine yo_open1 hR ht hA (br_f (by decide) (yo_key1 hk (br_f (by decide) (yo_fit1 hv (br_f (by decide) ?_)))))
  refine yo_get hR ht hA hk hf (fun yh' ys' yc' hR' => br_f (nu_nb hs) ?_)
  have hv' : vp_in (nI k) 12 := vp_in_nI hk (by decide)
  refine And.intro hv' (nm_r (e' := upd ys' k v) (by rw [zt_cl (by omega)]) (And.intro hv' (nm_r (e' := upd yc' k 1) (by rw [zt_cl (by omega)]; rfl) (h _ _ _ ?_))))
  obtain ⟨h1, h2, h3, h4, h5, h6⟩ := hR'
  refine ⟨h1, h2, fun i hi e => ?_, fun i hi e => ?_, h5, h6⟩
  · unfold upd
    by_cases c : i = k
    · rw [if_pos c, if_pos c]
    · rw [if_neg c, if_neg c]
      have := h3 i hi e
      rw [pk_un c] at this
      exact this
  · unfold upd zt_ub
    by_cases c : i = k
    · rw [if_pos c, if_pos c]; rfl
    · rw [if_neg c, if_neg c]
      have := h4 i hi e
      unfold zt_ub at this
      rw [if_neg c] at this
      exact this
theorem yo_putB {post : Int32 → SY → Prop} {v : Int32} (hR : ry_Y A N H S C yn yh ys yc ya) {k : Nat} (ht : t < 4) (hA : A t = true) (hk : k < 12) (hv : nu_m v) (hf : ¬ (H k = 0 ∨ H k = t + 1)) (h : post (-300000) (dn, yn, yh, ys, yc, ya)) : wpY_put post (dn, yn, yh, ys, yc, ya) (nI t) (nI k) v := by
  unfold wpY_put
  exact yo_open1 hR ht hA (br_f (by decide) (yo_key1 hk (br_f (by decide) (yo_fit1 hv (br_f (by decide) (yo_getB hR ht hA hk hf (br_t rfl h)))))))
theorem yo_put0 {post : Int32 → SY → Prop} {v1 v2 v3 : Int32} (hR : ry_Y A N H S C yn yh ys yc ya) (hn : ¬ (op_n A v1 ∧ ke_y v2 ∧ nu_m v3)) (h : post (-100000) (dn, yn, yh, ys, yc, ya)) : wpY_put post (dn, yn, yh, ys, yc, ya) v1 v2 v3 := by
  unfold wpY_put
  by_cases c : op_n A v1
  · obtain ⟨t, ht, rfl, hA⟩ := id c
    refine yo_open1 hR ht hA (br_f (by decide) ?_)
    by_cases d : ke_y v2
    · obtain ⟨k, hk, rfl⟩ := id d
      exact yo_key1 hk (br_f (by decide) (yo_fit0 (fun q => hn ⟨c, d, q⟩) (br_t rfl h)))
    · exact yo_key0 d (br_t rfl h)
  · exact yo_open0 hR c (br_t rfl h)
theorem yo_move {post : Int32 → SY → Prop} {b a : Nat} (hR : ry_Y A N H S C yn yh ys yc ya) (ht : t < 4) (hA : A t = true) (hb : b < 144) (hne : b % 12 ≠ b / 12) (ha : a ≤ 9999) (hs : ∀ k, k < 12 → nu_m (se_n N H S t k))
    (hB : ¬ ((H (b % 12) = 0 ∨ H (b % 12) = t + 1) ∧ (H (b / 12) = 0 ∨ H (b / 12) = t + 1)) → post (-300000) (dn, yn, yh, ys, yc, ya))
    (hF : (H (b % 12) = 0 ∨ H (b % 12) = t + 1) → (H (b / 12) = 0 ∨ H (b / 12) = t + 1) → ¬ (nu_m (se_n N H S t (b % 12) - nI a) ∧ nu_m (se_n N H S t (b / 12) + nI a)) → post (-200000) (dn, yn, yh, ys, yc, ya))
    (hO : (H (b % 12) = 0 ∨ H (b % 12) = t + 1) → (H (b / 12) = 0 ∨ H (b / 12) = t + 1) → nu_m (se_n N H S t (b % 12) - nI a) → nu_m (se_n N H S t (b / 12) + nI a) →
      ∀ yh' ys' yc', ry_Y A N (zt_un (zt_un H (b % 12) (t + 1)) (b / 12) (t + 1)) (upd (upd S (b % 12) (se_n N H S t (b % 12) - nI a)) (b / 12) (se_n N H S t (b / 12) + nI a)) (zt_ub (zt_ub C (b % 12) true) (b / 12) true) yn yh' ys' yc' ya → post (se_n N H S t (b % 12) - nI a) (dn, yn, yh', ys', yc', ya)) :
    wpY_move post (dn, yn, yh, ys, yc, ya) (nI t) (nI b) (nI a) := by
  have h1 : b % 12 < 12 := by omega
  have h2 : b / 12 < 12 := by omega
  unfold wpY_move
  refine yo_open1 hR ht hA (br_f (by decide) ?_)
  refine br_f (nI_pos (by omega)) (br_f (nI_nlt (b := b) (a := 143) (by omega) (by decide)) (And.intro (by decide) (And.intro (by decide) ?_)))
  rw [zi_r12 hb, zi_d12 hb]
  refine br_f (zt_ne hne (by omega) (by omega)) (br_f (nI_pos (by omega)) (br_t (nI_le (b := 9999) ha (by decide)) ?_))
  refine And.intro (by decide) (nm_e (And.intro (by decide) (nm_e ?_)))
  by_cases f1 : H (b % 12) = 0 ∨ H (b % 12) = t + 1
  · refine yo_busy0 hR ht h1 f1 (br_t rfl ?_)
    by_cases f2 : H (b / 12) = 0 ∨ H (b / 12) = t + 1
    · refine yo_busy0 hR ht h2 f2 (br_t rfl ?_)
      refine yo_sees hR ht h1 (nm_e (yo_sees hR ht h2 (nm_e ?_)))
      by_cases n1 : nu_m (se_n N H S t (b % 12) - nI a)
      · refine yo_fit1 n1 (br_f (by decide) ?_)
        by_cases n2 : nu_m (se_n N H S t (b / 12) + nI a)
        · refine yo_fit1 n2 (br_f (by decide) ?_)
          refine yo_put hR ht hA h1 n1 f1 (hs _ h1) (fun yh' ys' yc' hR' => ?_)
          have ne : b / 12 ≠ b % 12 := fun q => hne q.symm
          have es : se_n N (zt_un H (b % 12) (t + 1)) (upd S (b % 12) (se_n N H S t (b % 12) - nI a)) t (b / 12) = se_n N H S t (b / 12) := by
            unfold se_n
            rw [zt_un0 ne, pk_un ne]
          refine yo_put hR' ht hA h2 n2 ?_ (by rw [es]; exact hs _ h2) (fun yh'' ys'' yc'' hR'' => hO f1 f2 n1 n2 yh'' ys'' yc'' hR'')
          rw [zt_un0 ne]
          exact f2
        · exact yo_fit0 n2 (br_t rfl (hF f1 f2 (fun q => n2 q.2)))
      · exact yo_fit0 n1 (br_t rfl (hF f1 f2 (fun q => n1 q.1)))
    · exact yo_busy1 hR ht h2 f2 (br_f (by decide) (hB (fun q => f2 q.2)))
  · exact yo_busy1 hR ht h1 f1 (br_f (by decide) (hB (fun q => f1 q.1)))
theorem yo_move0 {post : Int32 → SY → Prop} {v1 v2 v3 : Int32} (hR : ry_Y A N H S C yn yh ys yc ya) (hn : ¬ mv_ok A v1 v2 v3) (h : post (-100000) (dn, yn, yh, ys, yc, ya)) : wpY_move post (dn, yn, yh, ys, yc, ya) v1 v2 v3 := by
  unfold wpY_move
  by_cases c : op_n A v1
  · obtain ⟨t, ht, rfl, hA⟩ := id c
    refine yo_open1 hR ht hA (br_f (by decide) (br_c (fun _ => h) (fun z1 => br_c (fun _ => h) (fun z2 => And.intro (by decide) (And.intro (by decide) (br_c (fun _ => h) (fun z3 => br_c (fun _ => h) (fun z4 => br_c (fun z5 => ?_) (fun _ => h)))))))))
    obtain ⟨b, hb, rfl⟩ := nI_of z1
    obtain ⟨a, ha, rfl⟩ := nI_of z4
    rw [show (143 : Int32) = nI 143 from rfl, nI_ltI (by decide) hb] at z2
    rw [show (9999 : Int32) = nI 9999 from rfl, nI_leI ha (by decide)] at z5
    rw [zi_r12 (by omega), zi_d12 (by omega), nI_eq (by omega) (by omega)] at z3
    exact absurd ⟨c, ⟨b, by omega, rfl, z3⟩, ⟨a, z5, rfl⟩⟩ hn
  · exact yo_open0 hR c (br_t rfl h)
theorem yo_beg1 {post : Int32 → SY → Prop} (hR : ry_Y A N H S C yn yh ys yc ya) (ht : t < 4) (hf : A t = false) (hb : ∀ j, j < t → A j = true)
    (h : ∀ ya', ry_Y (zt_ub A t true) N H S C yn yh ys yc ya' → post (nI t) (dn, yn, yh, ys, yc, ya')) : wpY_begin post (dn, yn, yh, ys, yc, ya) := by
  have go : ∀ r i f, i + r = t → r < f → wY_begin_2 post dn yn yh ys yc ya f (nI i) := by
    intro r
    induction r with
    | zero =>
      intro i f hi hfu
      cases f with
      | zero => omega
      | succ f =>
        have : i = t := by omega
        subst this
        have hv : vp_in (nI i) 4 := vp_in_nI ht (by decide)
        refine br_f (nI_ge (b := 4) ht (by decide)) (And.intro hv ?_)
        rw [zt_cl (by omega), hR.2.2.2.2.1 i ht, hf]
        refine br_t rfl (And.intro hv (nm_r (e' := upd ya i 1) rfl (h _ ?_)))
        obtain ⟨h1, h2, h3, h4, h5, h6⟩ := hR
        refine ⟨h1, h2, h3, h4, fun j hj => ?_, h6⟩
        unfold upd zt_ub
        by_cases c : j = i
        · rw [if_pos c, if_pos c]; rfl
        · rw [if_neg c, if_neg c]; exact h5 j hj
    | succ r ih =>
      intro i f hi hfu
      cases f with
      | zero => omega
      | succ f =>
        refine br_f (nI_ge (b := 4) (by omega) (by decide)) (And.intro (vp_in_nI (by omega) (by decide)) ?_)
        rw [zt_cl (by omega), hR.2.2.2.2.1 i (by omega), hb i (by omega)]
        exact br_f (by decide) (nm_r (nI_1 i) (ih (i + 1) f (by omega) (by omega)))
  exact Exists.intro (t + 1) (go t 0 (t + 1) (by omega) (by omega))
theorem yo_beg0 {post : Int32 → SY → Prop} (hR : ry_Y A N H S C yn yh ys yc ya) (hb : ∀ j, j < 4 → A j = true) (h : post (-200000) (dn, yn, yh, ys, yc, ya)) : wpY_begin post (dn, yn, yh, ys, yc, ya) := by
  have go : ∀ r i f, i + r = 4 → r < f → wY_begin_2 post dn yn yh ys yc ya f (nI i) := by
    intro r
    induction r with
    | zero =>
      intro i f hi hfu
      cases f with
      | zero => omega
      | succ f => exact br_t (nI_le (a := 4) (by omega) (by omega)) h
    | succ r ih =>
      intro i f hi hfu
      cases f with
      | zero => omega
      | succ f =>
        refine br_f (nI_ge (b := 4) (by omega) (by decide)) (And.intro (vp_in_nI (by omega) (by decide)) ?_)
        rw [zt_cl (by omega), hR.2.2.2.2.1 i (by omega), hb i (by omega)]
        exact br_f (by decide) (nm_r (nI_1 i) (ih (i + 1) f (by omega) (by omega)))
  exact Exists.intro 5 (go 4 0 5 (by omega) (by omega))
end
end
section
/-! ===== the reference, the rest ===== -/
theorem fi_N0 (N : Nat → Int32) (H : Nat → Nat) (S : Nat → Int32) (C : Nat → Bool) (t k : Nat) : fi_N N H S C t 0 k = N k := if_neg (fun q => absurd q.1 (by decide))
section
variable {t : Nat} {A : Nat → Bool} {N : Nat → Int32} {H : Nat → Nat} {S : Nat → Int32} {C : Nat → Bool}
variable {dn : Int32} {yn yh ys yc ya : Nat → Int32}
theorem yo_end_lp {post : SY → Prop} {de : Nat} (hde : de < 2) (ht : t < 4) (h2 : ∀ k, k < 12 → H k < 5) (h3 : ∀ k, k < 12 → H k ≠ 0 → ys k = S k) (h4 : ∀ k, k < 12 → H k ≠ 0 → yc k = zt_bI (C k)) (h5 : ∀ i, i < 4 → ya i = zt_bI (A i))
    (h : ∀ yn' yh' ya', ry_Y (kl_A (kl_1 t) A) (fi_N N H S C t de) (kl_H (kl_1 t) H) S C yn' yh' ys yc ya' → post (dn + nI de, yn', yh', ys, yc, ya')) :
    ∀ r k f yn yh, k + r = 12 → r < f → (∀ i, i < 12 → yn i = if i < k then fi_N N H S C t de i else N i) → (∀ i, i < 12 → yh i = nI (if i < k ∧ H i = t + 1 then 0 else H i)) → wY_end_2 post (nI t) (nI de) dn f (nI k) yn yh ys yc ya := by
  intro r
  induction r with
  | zero =>
    intro k f yn yh hk hf hn hh
    cases f with
    | zero => omega
    | succ f =>
      have : k = 12 := by omega
      subst this
      have hr : ry_Y (kl_A (kl_1 t) A) (fi_N N H S C t de) (kl_H (kl_1 t) H) S C yn yh ys yc (upd ya t 0) := by
        have ek : ∀ i, i < 12 → kl_H (kl_1 t) H i = (if i < 12 ∧ H i = t + 1 then 0 else H i) := by
          intro i hi
          unfold kl_H kl_1
          by_cases c : H i = t + 1
          · rw [if_pos ⟨by omega, decide_eq_true (by omega)⟩, if_pos ⟨hi, c⟩]
          · rw [if_neg (fun q => c (by have := of_decide_eq_true q.2; omega)), if_neg (fun q => c q.2)]
        have kz : ∀ i, kl_H (kl_1 t) H i ≠ 0 → H i ≠ 0 := by
          intro i q z
          rcases kl_le (kl_1 t) H i with w | w <;> omega
        refine ⟨fun i hi => by rw [hn i hi, if_pos hi], fun i hi => by rw [hh i hi, ek i hi], fun i hi q => h3 i hi (kz i q), fun i hi q => h4 i hi (kz i q), fun i hi => ?_, fun i hi => ?_⟩
        · unfold upd kl_A kl_1
          by_cases c : i = t
          · rw [if_pos c]; simp [c, zt_bI]
          · rw [if_neg c, h5 i hi]; simp [c]
        · have := h2 i hi
          rcases kl_le (kl_1 t) H i with w | w <;> omega
      refine br_t (zt_ge12 (by omega) (by omega)) (And.intro (vp_in_nI ht (by decide)) (nm_r (e' := upd ya t 0) (by rw [zt_cl (by omega)]; rfl) ?_))
      have : de = 0 ∨ de = 1 := by omega
      rcases this with q | q
      · subst q
        have := h yn yh _ hr
        rw [show dn + nI 0 = dn from Int32.add_zero dn] at this
        exact br_t rfl this
      · subst q
        exact br_f (by decide) (nm_e (h yn yh _ hr))
  | succ r ih =>
    intro k f yn yh hk hf hn hh
    cases f with
    | zero => omega
    | succ f =>
      have hk12 : k < 12 := by omega
      have hv : vp_in (nI k) 12 := vp_in_nI hk12 (by decide)
      have hc : (nI k).toNatClampNeg = k := zt_cl (by omega)
      have h5k := h2 k hk12
      have ek : yh k = nI (H k) := by rw [hh k hk12, if_neg (by omega)]
      have en : yn k = N k := by rw [hn k hk12, if_neg (by omega)]
      refine br_f (zt_le12 hk12) (And.intro hv ?_)
      rw [hc, ek]
      have go53 : ∀ x, x = fi_N N H S C t de k → H k = t + 1 → wY_end_53 post (wY_end_2 post (nI t) (nI de) dn f) (nI t) (nI de) (nI k) x (nI k) dn yn yh ys yc ya := by
        intro x hx hHk
        refine And.intro hv (nm_r (e' := upd yn k x) (by rw [hc]) (And.intro hv (nm_r (e' := upd yh k 0) (by rw [hc]) (nm_r (nI_1 k) (ih (k + 1) f _ _ (by omega) (by omega) (fun i hi => ?_) (fun i hi => ?_))))))
        · unfold upd
          by_cases c : i = k
          · rw [if_pos c, if_pos (by omega), hx, c]
          · rw [if_neg c, hn i hi]
            by_cases d : i < k
            · rw [if_pos d, if_pos (by omega)]
            · rw [if_neg d, if_neg (by omega)]
        · unfold upd
          by_cases c : i = k
          · rw [if_pos c, if_pos ⟨by omega, by rw [c]; exact hHk⟩]; rfl
          · rw [if_neg c, hh i hi]
            by_cases d : i < k ∧ H i = t + 1
            · rw [if_pos d, if_pos ⟨by omega, d.2⟩]
            · rw [if_neg d, if_neg (fun q => d ⟨by omega, q.2⟩)]
      have go47 : fi_N N H S C t de k = N k → H k = t + 1 → wY_end_47 post (wY_end_2 post (nI t) (nI de) dn f) (nI t) (nI de) (nI k) (nI k) dn yn yh ys yc ya := by
        intro hx hHk
        refine And.intro hv ?_
        rw [hc]
        exact go53 _ (by rw [hx]; exact en) hHk
      refine pk_eq (x := nI (H k)) (y := nI t + 1) (H k) (t + 1) (fun z => ?_) (fun z => nm_r (nI_1 k) (ih (k + 1) f yn yh (by omega) (by omega) (fun i hi => ?_) (fun i hi => ?_))) rfl (nI_1 t)
      · refine pk_eq (x := nI de) (y := 0) de 0 (fun y => go47 (by rw [y]; exact fi_N0 N H S C t k) z) (fun y => And.intro hv ?_) rfl rfl
        rw [h4 k hk12 (by omega)]
        have hd1 : de = 1 := by omega
        refine ek_if2 (zt_bI0 (C k)) (fun x => go47 ?_ z) (fun x => And.intro hv ?_)
        · exact if_neg (fun q => absurd (x.symm.trans q.2.2) (by decide))
        · have xc : C k = true := by
            cases w : C k
            · exact absurd w x
            · rfl
          refine go53 _ ?_ z
          rw [h3 k hk12 (by omega)]
          exact (if_pos ⟨hd1, z, xc⟩).symm
      · rw [hn i hi]
        by_cases c : i = k
        · rw [if_neg (by omega), if_pos (by omega), c]
          exact (if_neg (fun q => z q.2.1)).symm
        · by_cases d : i < k
          · rw [if_pos d, if_pos (by omega)]
          · rw [if_neg d, if_neg (by omega)]
      · rw [hh i hi]
        by_cases d : i < k ∧ H i = t + 1
        · rw [if_pos d, if_pos ⟨by omega, d.2⟩]
        · rw [if_neg d, if_neg (fun q => ?_)]
          by_cases c : i = k
          · rw [c] at q; exact z q.2
          · exact d ⟨by omega, q.2⟩
theorem yo_end {post : SY → Prop} {de : Nat} (hde : de < 2) (ht : t < 4) (hR : ry_Y A N H S C yn yh ys yc ya)
    (h : ∀ yn' yh' ya', ry_Y (kl_A (kl_1 t) A) (fi_N N H S C t de) (kl_H (kl_1 t) H) S C yn' yh' ys yc ya' → post (dn + nI de, yn', yh', ys, yc, ya')) : wpY_end post (dn, yn, yh, ys, yc, ya) (nI t) (nI de) := by
  obtain ⟨h1, h2, h3, h4, h5, h6⟩ := hR
  refine Exists.intro 13 (yo_end_lp hde ht h6 h3 h4 h5 h 12 0 13 yn yh (by omega) (by omega) (fun i hi => ?_) (fun i hi => ?_))
  · rw [if_neg (by omega)]; exact h1 i hi
  · rw [if_neg (by omega)]; exact h2 i hi
theorem yo_holds {post : Int32 → Prop} {m : Nat} (hm : m < 3) (ht : t < 4) (hR : ry_Y A N H S C yn yh ys yc ya) (h : post (zt_bI (hn_k H m t 12))) : wpY_holdsOn post (dn, yn, yh, ys, yc, ya) (nI t) (nI m) := by
  have go : ∀ r k f, k + r = 12 → r < f → wY_holdsOn_5 post (nI t) (nI m) dn yn yh ys yc ya f (zt_bI (hn_k H m t k)) (nI k) := by
    intro r
    induction r with
    | zero =>
      intro k f hk hf
      cases f with
      | zero => omega
      | succ f =>
        have : k = 12 := by omega
        subst this
        refine br_t (zt_ge12 (by omega) (by omega)) (And.intro ?_ h)
        cases hn_k H m t 12 <;> rfl
    | succ r ih =>
      intro k f hk hf
      cases f with
      | zero => omega
      | succ f =>
        have hk12 : k < 12 := by omega
        have h5k := hR.2.2.2.2.2 k hk12
        have := ih (k + 1) f (by omega) (by omega)
        have ek : hn_k H m t (k + 1) = (hn_k H m t k || (decide (k % 3 = m) && decide (H k = t + 1))) := rfl
        rw [ek] at this
        refine br_f (zt_le12 hk12) (ek_if2 (zt_bI0 _) (fun z => And.intro (vp_in_nI hk12 (by decide)) ?_) (fun z => nm_r (nI_1 k) ?_))
        · rw [z, Bool.false_or] at this
          rw [zt_cl (by omega), hR.2.1 k hk12]
          refine pk_eq (x := nI (H k)) (y := nI t + 1) (H k) (t + 1) (fun y => And.intro (by decide) ?_) (fun y => nm_r (nI_1 k) ?_) rfl (nI_1 t)
          · have e3 : nI k - nI k / 3 * 3 = nI (k % 3) := by rw [show (3 : Int32) = nI 3 from rfl, pk_rem (by omega) (by decide) (by decide)]
            rw [e3]
            refine pk_eq (x := nI (k % 3)) (y := nI m) (k % 3) m (fun x => nm_r (nI_1 k) ?_) (fun x => nm_r (nI_1 k) ?_) rfl rfl
            · simp only [x, y, decide_true, Bool.and_self] at this
              exact this
            · simp only [x, decide_false, Bool.false_and] at this
              exact this
          · simp only [y, decide_false, Bool.and_false] at this
            exact this
        · have zt : hn_k H m t k = true := by
            cases w : hn_k H m t k
            · exact absurd w z
            · rfl
          rw [zt, Bool.true_or] at this
          exact this
  exact Exists.intro 13 (go 12 0 13 (by omega) (by omega))
theorem yo_crash {post : Int32 → SY → Prop} {m : Nat} (hm : m < 4) (hR : ry_Y A N H S C yn yh ys yc ya)
    (h : ∀ yn' yh' ya', ry_Y (kl_A (up_K (ck_K A H m) 4) A) N (kl_H (up_K (ck_K A H m) 4) H) S C yn' yh' ys yc ya' → post (nI (cn_t (ck_K A H m) 4)) (dn, yn', yh', ys, yc, ya')) : wpY_crash post (dn, yn, yh, ys, yc, ya) (nI m) := by
  have go : ∀ r i f yn yh ya, i + r = 4 → r < f → ry_Y (kl_A (up_K (ck_K A H m) i) A) N (kl_H (up_K (ck_K A H m) i) H) S C yn yh ys yc ya → wY_crash_16 post (nI m) f (nI (cn_t (ck_K A H m) i)) (nI i) dn yn yh ys yc ya := by
    intro r
    induction r with
    | zero =>
      intro i f yn yh ya hi hf hR
      cases f with
      | zero => omega
      | succ f =>
        have : i = 4 := by omega
        subst this
        exact br_t (nI_le (a := 4) (b := 4) (by decide) (by decide)) (h yn yh ya hR)
    | succ r ih =>
      intro i f yn yh ya hi hf hR
      cases f with
      | zero => omega
      | succ f =>
        have hA : kl_A (up_K (ck_K A H m) i) A i = A i := by unfold kl_A up_K; simp
        have skip : ck_K A H m i = false → wY_crash_16 post (nI m) f (nI (cn_t (ck_K A H m) i)) (nI (i + 1)) dn yn yh ys yc ya := by
          intro z
          have e : cn_t (ck_K A H m) (i + 1) = cn_t (ck_K A H m) i := if_neg (by rw [z]; decide)
          have := ih (i + 1) f yn yh ya (by omega) (by omega) (ry_cong hR (fun t _ => kl_An z t) (fun _ _ => rfl) (fun k _ => kl_Hn z k) (fun _ _ _ => rfl) (fun _ _ _ => rfl))
          rw [e] at this
          exact this
        have kill : ck_K A H m i = true → wY_crash_44 post (wY_crash_16 post (nI m) f) (nI m) (nI (cn_t (ck_K A H m) i)) (nI i) dn yn yh ys yc ya := by
          intro z
          unfold wY_crash_44
          refine yo_end (de := 0) (by decide) (by omega) hR (fun yn' yh' ya' hR' => nm_r (nI_1 _) (nm_r (nI_1 i) ?_))
          have e : cn_t (ck_K A H m) (i + 1) = cn_t (ck_K A H m) i + 1 := if_pos z
          have := ih (i + 1) f yn' yh' ya' (by omega) (by omega) (ry_cong hR' (fun t _ => kl_Ay z t) (fun k _ => (fi_N0 _ _ _ _ _ k).symm) (fun k _ => kl_Hy z k) (fun _ _ _ => rfl) (fun _ _ _ => rfl))
          rw [e] at this
          show wY_crash_16 post (nI m) f (nI (cn_t (ck_K A H m) i + 1)) (nI (i + 1)) (dn + 0) yn' yh' ys yc ya'
          rw [Int32.add_zero]
          exact this
        refine br_f (nI_ge (b := 4) (by omega) (by decide)) (And.intro (vp_in_nI (by omega) (by decide)) ?_)
        rw [zt_cl (by omega), hR.2.2.2.2.1 i (by omega), hA]
        refine ek_if2 (zt_bI0 (A i)) (fun z => nm_r (nI_1 i) (skip ?_)) (fun z => ?_)
        · unfold ck_K; rw [z]; rfl
        · have zA : A i = true := by
            cases w : A i
            · exact absurd w z
            · rfl
          refine pk_eq (x := nI m) (y := 3) m 3 (fun y => kill ?_) (fun y => ?_) rfl rfl
          · unfold ck_K; rw [zA]; simp [y]
          · have eh : hn_k (kl_H (up_K (ck_K A H m) i) H) m i 12 = hn_k H m i 12 := by
              apply hn_cong
              intro k hk
              unfold kl_H
              by_cases c : H k = i + 1
              · rw [if_neg]
                rintro ⟨_, q⟩
                rw [c] at q
                unfold up_K at q
                simp at q
              · rcases kl_le (up_K (ck_K A H m) i) H k with w | w
                · unfold kl_H at w; rw [w]; omega
                · unfold kl_H at w; rw [w]
            refine yo_holds (by omega) (by omega) hR ?_
            rw [eh]
            refine ek_if2 (zt_bI0 _) (fun x => nm_r (nI_1 i) (skip ?_)) (fun x => kill ?_)
            · unfold ck_K; simp [y, x]
            · have xt : hn_k H m i 12 = true := by
                cases w : hn_k H m i 12
                · exact absurd w x
                · rfl
              unfold ck_K; simp [zA, xt]
  refine br_f (nI_pos (by omega)) (br_t (nI_le (b := 3) (by omega) (by decide)) (Exists.intro 5 (go 4 0 5 yn yh ya (by omega) (by omega) (ry_cong hR (fun t _ => ?_) (fun _ _ => rfl) (fun k _ => ?_) (fun _ _ _ => rfl) (fun _ _ _ => rfl)))))
  · unfold kl_A up_K; simp
  · unfold kl_H up_K; simp
theorem yo_crash0 {post : Int32 → SY → Prop} {v1 : Int32} (hn : ¬ ∃ m, m < 4 ∧ v1 = nI m) (h : post (-100000) (dn, yn, yh, ys, yc, ya)) : wpY_crash post (dn, yn, yh, ys, yc, ya) v1 := by
  refine br_c (fun _ => h) (fun z => br_c (fun y => ?_) (fun _ => h))
  obtain ⟨m, hm, rfl⟩ := nI_of z
  rw [show (3 : Int32) = nI 3 from rfl, nI_leI hm (by decide)] at y
  exact absurd ⟨m, by omega, rfl⟩ hn
theorem yo_abort {post : Int32 → SY → Prop} (hR : ry_Y A N H S C yn yh ys yc ya) (ht : t < 4) (hA : A t = true)
    (h : ∀ yn' yh' ya', ry_Y (kl_A (kl_1 t) A) N (kl_H (kl_1 t) H) S C yn' yh' ys yc ya' → post (nI (ch_t H t 12)) (dn, yn', yh', ys, yc, ya')) : wpY_abort post (dn, yn, yh, ys, yc, ya) (nI t) := by
  have go : ∀ r k f, k + r = 12 → r < f → wY_abort_15 post (nI t) dn yn yh ys yc ya f (nI (ch_t H t k)) (nI k) := by
    intro r
    induction r with
    | zero =>
      intro k f hk hf
      cases f with
      | zero => omega
      | succ f =>
        have : k = 12 := by omega
        subst this
        refine br_t (zt_ge12 (by omega) (by omega)) (yo_end (de := 0) (by decide) ht hR (fun yn' yh' ya' hR' => ?_))
        show post (nI (ch_t H t 12)) (dn + 0, yn', yh', ys, yc, ya')
        rw [Int32.add_zero]
        exact h yn' yh' ya' (ry_cong hR' (fun _ _ => rfl) (fun k _ => (fi_N0 _ _ _ _ _ k).symm) (fun _ _ => rfl) (fun _ _ _ => rfl) (fun _ _ _ => rfl))
    | succ r ih =>
      intro k f hk hf
      cases f with
      | zero => omega
      | succ f =>
        have hk12 : k < 12 := by omega
        have h5k := hR.2.2.2.2.2 k hk12
        have := ih (k + 1) f (by omega) (by omega)
        refine br_f (zt_le12 hk12) (And.intro (vp_in_nI hk12 (by decide)) ?_)
        rw [zt_cl (by omega), hR.2.1 k hk12]
        refine pk_eq (x := nI (H k)) (y := nI t + 1) (H k) (t + 1) (fun z => ?_) (fun z => ?_) rfl (nI_1 t)
        · have ec : ch_t H t (k + 1) = ch_t H t k + 1 := if_pos z
          rw [ec] at this
          exact nm_r (nI_1 _) (nm_r (nI_1 k) this)
        · have ec : ch_t H t (k + 1) = ch_t H t k := if_neg z
          rw [ec] at this
          exact nm_r (nI_1 k) this
  unfold wpY_abort
  exact yo_open1 hR ht hA (br_f (by decide) (Exists.intro 13 (go 12 0 13 (by omega) (by omega))))
theorem yo_abort0 {post : Int32 → SY → Prop} {v1 : Int32} (hR : ry_Y A N H S C yn yh ys yc ya) (hn : ¬ op_n A v1) (h : post (-100000) (dn, yn, yh, ys, yc, ya)) : wpY_abort post (dn, yn, yh, ys, yc, ya) v1 := by
  unfold wpY_abort
  exact yo_open0 hR hn (br_t rfl h)
theorem yo_peek {post : Int32 → Prop} (hR : ry_Y A N H S C yn yh ys yc ya) {k : Nat} (hk : k < 12) (h : post (N k)) : wpY_peek post (dn, yn, yh, ys, yc, ya) (nI k) := by
  unfold wpY_peek
  refine yo_key1 hk (br_f (by decide) (And.intro (vp_in_nI hk (by decide)) ?_))
  rw [zt_cl (by omega), hR.1 k hk]; exact h
theorem yo_peek0 {post : Int32 → Prop} {v : Int32} (hn : ¬ ke_y v) (h : post (-100000)) : wpY_peek post (dn, yn, yh, ys, yc, ya) v := by
  unfold wpY_peek
  exact yo_key0 hn (br_t rfl h)
theorem yo_holder {post : Int32 → Prop} (hR : ry_Y A N H S C yn yh ys yc ya) {k : Nat} (hk : k < 12) (h : post (if H k = 0 then -200000 else nI (H k - 1))) : wpY_holder post (dn, yn, yh, ys, yc, ya) (nI k) := by
  unfold wpY_holder
  have h5 := hR.2.2.2.2.2 k hk
  refine yo_key1 hk (br_f (by decide) (And.intro (vp_in_nI hk (by decide)) ?_))
  rw [zt_cl (by omega), hR.2.1 k hk]
  refine pk_eq (x := nI (H k)) (y := 0) (H k) 0 (fun z => ?_) (fun z => And.intro (vp_in_nI hk (by decide)) ?_) rfl rfl
  · rw [if_pos z] at h; exact h
  · rw [if_neg z] at h
    rw [show (1 : Int32) = nI 1 from rfl, pk_sub (by omega)]
    exact h
theorem yo_holder0 {post : Int32 → Prop} {v : Int32} (hn : ¬ ke_y v) (h : post (-100000)) : wpY_holder post (dn, yn, yh, ys, yc, ya) v := by
  unfold wpY_holder
  exact yo_key0 hn (br_t rfl h)
theorem yo_open {post : Int32 → Prop} (hR : ry_Y A N H S C yn yh ys yc ya) (h : ∀ y, (∀ i, i < 32 → bt y i = (decide (i < 4) && A i)) → post y) : wpY_open post (dn, yn, yh, ys, yc, ya) := by
  have go : ∀ r k f x, k + r = 4 → r < f → (∀ i, i < 32 → bt x i = (decide (i < k) && A i)) → wY_open_4 post dn yn yh ys yc ya f x (nI k) := by
    intro r
    induction r with
    | zero =>
      intro k f x hk hf hx
      cases f with
      | zero => omega
      | succ f =>
        have : k = 4 := by omega
        subst this
        exact br_t (nI_le (a := 4) (b := 4) (by decide) (by decide)) (h x hx)
    | succ r ih =>
      intro k f x hk hf hx
      cases f with
      | zero => omega
      | succ f =>
        refine br_f (nI_ge (b := 4) (by omega) (by decide)) (And.intro (vp_in_nI (by omega) (by decide)) ?_)
        rw [zt_cl (by omega), hR.2.2.2.2.1 k (by omega)]
        refine ek_if2 (zt_bI0 (A k)) (fun z => nm_r (nI_1 k) (ih (k + 1) f _ (by omega) (by omega) (fun i hi => ?_))) (fun z => nm_e (nm_r (nI_1 k) (ih (k + 1) f _ (by omega) (by omega) (fun i hi => ?_))))
        · rw [hx i hi]
          by_cases q : i = k
          · subst q; simp [z]
          · have : (i < k + 1) = (i < k) := by apply propext; omega
            simp only [this]
        · have zt : A k = true := by
            cases w : A k
            · exact absurd w z
            · rfl
          rw [zt_set _ (by omega) hi, hx i hi]
          by_cases q : i = k
          · subst q; simp [zt]
          · have : (i < k + 1) = (i < k) := by apply propext; omega
            simp only [this]
            simp [q]
  exact Exists.intro 5 (go 4 0 5 0 (by omega) (by omega) (fun i hi => by rw [b_0]; simp))
theorem yo_keys {post : Int32 → Prop} (hR : ry_Y A N H S C yn yh ys yc ya) (ht : t < 4) (hA : A t = true) (h : ∀ y, (∀ i, i < 32 → bt y i = (decide (i < 12) && decide (H i = t + 1))) → post y) : wpY_keys post (dn, yn, yh, ys, yc, ya) (nI t) := by
  have go : ∀ r k f x, k + r = 12 → r < f → (∀ i, i < 32 → bt x i = (decide (i < k) && decide (H i = t + 1))) → wY_keys_4 post (nI t) dn yn yh ys yc ya f x (nI k) := by
    intro r
    induction r with
    | zero =>
      intro k f x hk hf hx
      cases f with
      | zero => omega
      | succ f =>
        have : k = 12 := by omega
        subst this
        exact br_t (zt_ge12 (by omega) (by omega)) (h x hx)
    | succ r ih =>
      intro k f x hk hf hx
      cases f with
      | zero => omega
      | succ f =>
        have hk12 : k < 12 := by omega
        have h5k := hR.2.2.2.2.2 k hk12
        refine br_f (zt_le12 hk12) (yo_open1 hR ht hA (br_f (by decide) (And.intro (vp_in_nI hk12 (by decide)) ?_)))
        rw [zt_cl (by omega), hR.2.1 k hk12]
        refine pk_eq (x := nI (H k)) (y := nI t + 1) (H k) (t + 1) (fun z => nm_e (nm_r (nI_1 k) (ih (k + 1) f _ (by omega) (by omega) (fun i hi => ?_)))) (fun z => nm_r (nI_1 k) (ih (k + 1) f _ (by omega) (by omega) (fun i hi => ?_))) rfl (nI_1 t)
        · rw [zt_set _ (by omega) hi, hx i hi]
          by_cases q : i = k
          · subst q; simp [z]
          · have : (i < k + 1) = (i < k) := by apply propext; omega
            simp only [this]
            simp [q]
        · rw [hx i hi]
          by_cases q : i = k
          · subst q; simp [z]
          · have : (i < k + 1) = (i < k) := by apply propext; omega
            simp only [this]
  exact Exists.intro 13 (go 12 0 13 0 (by omega) (by omega) (fun i hi => by rw [b_0]; simp))
theorem yo_keys0 {post : Int32 → Prop} {v : Int32} (hR : ry_Y A N H S C yn yh ys yc ya) (hn : ¬ op_n A v) (h : post 0) : wpY_keys post (dn, yn, yh, ys, yc, ya) v :=
  Exists.intro 1 (br_f (by decide) (yo_open0 hR hn (br_t rfl h)))
theorem yo_written {post : Int32 → Prop} (hR : ry_Y A N H S C yn yh ys yc ya) (ht : t < 4) (hA : A t = true) (h : ∀ y, (∀ i, i < 32 → bt y i = (decide (i < 12) && (decide (H i = t + 1) && C i))) → post y) : wpY_written post (dn, yn, yh, ys, yc, ya) (nI t) := by
  have go : ∀ r k f x, k + r = 12 → r < f → (∀ i, i < 32 → bt x i = (decide (i < k) && (decide (H i = t + 1) && C i))) → wY_written_4 post (nI t) dn yn yh ys yc ya f x (nI k) := by
    intro r
    induction r with
    | zero =>
      intro k f x hk hf hx
      cases f with
      | zero => omega
      | succ f =>
        have : k = 12 := by omega
        subst this
        exact br_t (zt_ge12 (by omega) (by omega)) (h x hx)
    | succ r ih =>
      intro k f x hk hf hx
      cases f with
      | zero => omega
      | succ f =>
        have hk12 : k < 12 := by omega
        have h5k := hR.2.2.2.2.2 k hk12
        have skip : ¬ (H k = t + 1 ∧ C k = true) → wY_written_4 post (nI t) dn yn yh ys yc ya f x (nI (k + 1)) := by
          intro z
          refine ih (k + 1) f x (by omega) (by omega) (fun i hi => ?_)
          rw [hx i hi]
          by_cases q : i = k
          · subst q
            by_cases w : H i = t + 1
            · have : C i = false := by
                cases u : C i
                · rfl
                · exact absurd ⟨w, u⟩ z
              simp [this]
            · simp [w]
          · have : (i < k + 1) = (i < k) := by apply propext; omega
            simp only [this]
        refine br_f (zt_le12 hk12) (yo_open1 hR ht hA (br_f (by decide) (And.intro (vp_in_nI hk12 (by decide)) ?_)))
        rw [zt_cl (by omega), hR.2.1 k hk12]
        refine pk_eq (x := nI (H k)) (y := nI t + 1) (H k) (t + 1) (fun z => And.intro (vp_in_nI hk12 (by decide)) ?_) (fun z => nm_r (nI_1 k) (skip (fun q => z q.1))) rfl (nI_1 t)
        rw [hR.2.2.2.1 k hk12 (by omega)]
        refine ek_if2 (zt_bI0 (C k)) (fun y => nm_r (nI_1 k) (skip (fun q => absurd (y.symm.trans q.2) (by decide)))) (fun y => nm_e (nm_r (nI_1 k) (ih (k + 1) f _ (by omega) (by omega) (fun i hi => ?_))))
        have yt : C k = true := by
          cases w : C k
          · exact absurd w y
          · rfl
        rw [zt_set _ (by omega) hi, hx i hi]
        by_cases q : i = k
        · subst q; simp [z, yt]
        · have : (i < k + 1) = (i < k) := by apply propext; omega
          simp only [this]
          simp [q]
  exact Exists.intro 13 (go 12 0 13 0 (by omega) (by omega) (fun i hi => by rw [b_0]; simp))
theorem yo_written0 {post : Int32 → Prop} {v : Int32} (hR : ry_Y A N H S C yn yh ys yc ya) (hn : ¬ op_n A v) (h : post 0) : wpY_written post (dn, yn, yh, ys, yc, ya) v :=
  Exists.intro 1 (br_f (by decide) (yo_open0 hR hn (br_t rfl h)))
end
end
section
/-! ===== the reference: sums and a commit ===== -/
def sm_s (N : Nat → Int32) (m : Nat) : Nat → Int32
  | 0 => 0
  | k + 1 => if k % 3 = m then sm_s N m k + N k else sm_s N m k
theorem sm_e (N : Nat → Int32) {m : Nat} (hm : m < 3) : sm_s N m 12 = 0 + N m + N (m + 3) + N (m + 3 + 3) + N (m + 3 + 3 + 3) := by
  have : m = 0 ∨ m = 1 ∨ m = 2 := by omega
  rcases this with q | q | q <;> subst q <;> simp [sm_s]
section
variable {t : Nat} {A : Nat → Bool} {N : Nat → Int32} {H : Nat → Nat} {S : Nat → Int32} {C : Nat → Bool}
variable {dn : Int32} {yn yh ys yc ya : Nat → Int32}
theorem zi_r3 {k : Nat} (hk : k < 100) : nI k - nI k / 3 * 3 = nI (k % 3) := by rw [show (3 : Int32) = nI 3 from rfl, pk_rem (by omega) (by decide) (by decide)]
theorem yo_sum {post : Int32 → Prop} (hR : ry_Y A N H S C yn yh ys yc ya) {m : Nat} (hm : m < 3) (h : post (sm_s N m 12)) : wpY_sum post (dn, yn, yh, ys, yc, ya) (nI m) := by
  have go : ∀ r k f, k + r = 12 → r < f → wY_sum_4 post (nI m) dn yn yh ys yc ya f (sm_s N m k) (nI k) := by
    intro r
    induction r with
    | zero =>
      intro k f hk hf
      cases f with
      | zero => omega
      | succ f =>
        have : k = 12 := by omega
        subst this
        exact br_t (zt_ge12 (by omega) (by omega)) (br_f (nI_pos (by omega)) (br_f (nI_nlt (b := m) (a := 2) (by omega) (by decide)) h))
    | succ r ih =>
      intro k f hk hf
      cases f with
      | zero => omega
      | succ f =>
        have hk12 : k < 12 := by omega
        have := ih (k + 1) f (by omega) (by omega)
        refine br_f (zt_le12 hk12) (And.intro (by decide) ?_)
        rw [zi_r3 (by omega)]
        refine pk_eq (x := nI (k % 3)) (y := nI m) (k % 3) m (fun z => And.intro (vp_in_nI hk12 (by decide)) ?_) (fun z => nm_r (nI_1 k) ?_) rfl rfl
        · rw [zt_cl (by omega), hR.1 k hk12]
          have e : sm_s N m (k + 1) = sm_s N m k + N k := if_pos z
          rw [e] at this
          exact nm_e (nm_r (nI_1 k) this)
        · have e : sm_s N m (k + 1) = sm_s N m k := if_neg z
          rw [e] at this
          exact this
  exact Exists.intro 13 (go 12 0 13 (by omega) (by omega))
theorem yo_sum0 {post : Int32 → Prop} {v : Int32} (hn : ¬ ∃ m, m < 3 ∧ v = nI m) (h : post (-100000)) : wpY_sum post (dn, yn, yh, ys, yc, ya) v := by
  have go : ∀ r k f x, k + r = 12 → r < f → wY_sum_4 post v dn yn yh ys yc ya f x (nI k) := by
    intro r
    induction r with
    | zero =>
      intro k f x hk hf
      cases f with
      | zero => omega
      | succ f =>
        refine br_t (zt_ge12 (by omega) (by omega)) (br_c (fun _ => h) (fun z => br_t ?_ h))
        obtain ⟨m, hm, rfl⟩ := nI_of z
        rw [show (2 : Int32) = nI 2 from rfl, nI_ltI (by decide) hm]
        rcases Nat.lt_or_ge m 3 with q | q
        · exact absurd ⟨m, q, rfl⟩ hn
        · omega
    | succ r ih =>
      intro k f x hk hf
      cases f with
      | zero => omega
      | succ f =>
        have hk12 : k < 12 := by omega
        refine br_f (zt_le12 hk12) (And.intro (by decide) (br_c (fun _ => And.intro (vp_in_nI hk12 (by decide)) (nm_e (nm_r (nI_1 k) (ih (k + 1) f _ (by omega) (by omega))))) (fun _ => nm_r (nI_1 k) (ih (k + 1) f _ (by omega) (by omega)))))
  exact Exists.intro 13 (go 12 0 13 0 (by omega) (by omega))
theorem yo_total {post : Int32 → Prop} (hR : ry_Y A N H S C yn yh ys yc ya) (h : post (sm_s N 0 12 + sm_s N 1 12 + sm_s N 2 12)) : wpY_total post (dn, yn, yh, ys, yc, ya) := by
  unfold wpY_total
  exact yo_sum (m := 0) hR (by decide) (yo_sum (m := 1) hR (by decide) (yo_sum (m := 2) hR (by decide) h))
/-! a commit -/
theorem yf_hn {i : Nat} (m : Nat) (hi : i ≠ t) : hn_k (kl_H (kl_1 t) H) m i 12 = hn_k H m i 12 := by
  apply hn_cong
  intro k hk
  unfold kl_H kl_1
  by_cases c : H k = t + 1
  · rw [if_pos ⟨by omega, decide_eq_true (by omega)⟩, c]; omega
  · rw [if_neg (fun q => c (by have := of_decide_eq_true q.2; omega))]
/-- first the end, then the fall of all or of one machine -/
theorem yf_A {td m ev i : Nat} (hi : i < 4) (hev : (m = 3 ∧ ev = 2) ∨ (m < 3 ∧ m = td ∧ ev = 1)) :
    fi_A A H t td ev i = kl_A (up_K (ck_K (kl_A (kl_1 t) A) (kl_H (kl_1 t) H) m) 4) (kl_A (kl_1 t) A) i := by
  show ((A i && !mi_K H t td ev i) && !decide (i = t)) = ((A i && !decide (i = t)) && !(decide (i < 4) && ((A i && !decide (i = t)) && (decide (m = 3) || hn_k (kl_H (kl_1 t) H) m i 12))))
  by_cases c : i = t
  · simp [c]
  · rw [yf_hn m c]
    unfold mi_K
    rcases hev with ⟨h1, h2⟩ | ⟨h0, h1, h2⟩
    · subst h1 h2
      simp [c, hi]
    · subst h1 h2
      have : ¬ m = 3 := by omega
      simp only [this, c, hi, decide_true, decide_false, Bool.not_false, Bool.true_and, Bool.and_true, Bool.false_or]
      cases A i <;> simp
theorem yf_H {td m ev k : Nat} (h5 : H k < 5) (hA : H k ≠ 0 → A (H k - 1) = true) (hev : (m = 3 ∧ ev = 2) ∨ (m < 3 ∧ m = td ∧ ev = 1)) :
    fi_H H t td ev k = kl_H (up_K (ck_K (kl_A (kl_1 t) A) (kl_H (kl_1 t) H) m) 4) (kl_H (kl_1 t) H) k := by
  unfold fi_H
  rw [show kl_H (up_K (ck_K (kl_A (kl_1 t) A) (kl_H (kl_1 t) H) m) 4) (kl_H (kl_1 t) H) k = (if kl_H (kl_1 t) H k ≠ 0 ∧ up_K (ck_K (kl_A (kl_1 t) A) (kl_H (kl_1 t) H) m) 4 (kl_H (kl_1 t) H k - 1) = true then 0 else kl_H (kl_1 t) H k) from rfl]
  by_cases c : H k = t + 1
  · have e : kl_H (kl_1 t) H k = 0 := if_pos ⟨by omega, decide_eq_true (by omega)⟩
    rw [if_pos c, e]; simp
  · have e : kl_H (kl_1 t) H k = H k := if_neg (fun q => c (by have := of_decide_eq_true q.2; omega))
    rw [if_neg c, e]
    rw [show kl_H (mi_K H t td ev) H k = (if H k ≠ 0 ∧ mi_K H t td ev (H k - 1) = true then 0 else H k) from rfl]
    by_cases z : H k = 0
    · rw [if_neg (fun q => q.1 z), if_neg (fun q => q.1 z)]
    · have ne : H k - 1 ≠ t := by omega
      have h4 : H k - 1 < 4 := by omega
      have hK : mi_K H t td ev (H k - 1) = up_K (ck_K (kl_A (kl_1 t) A) (kl_H (kl_1 t) H) m) 4 (H k - 1) := by
        show _ = (decide (H k - 1 < 4) && ((A (H k - 1) && !decide (H k - 1 = t)) && (decide (m = 3) || hn_k (kl_H (kl_1 t) H) m (H k - 1) 12)))
        rw [hA z, yf_hn m ne]
        unfold mi_K
        rcases hev with ⟨h1, h2⟩ | ⟨h0, h1, h2⟩
        · subst h1 h2
          simp [ne, h4]
        · subst h1 h2
          have : ¬ m = 3 := by omega
          simp [ne, h4, this]
      rw [← hK]
/-- no fall at all -/
theorem yf_A0 {td i : Nat} : fi_A A H t td 0 i = kl_A (kl_1 t) A i := by
  show ((A i && !mi_K H t td 0 i) && !decide (i = t)) = (A i && !decide (i = t))
  rw [mi_K0]; simp
theorem yf_H0 {td k : Nat} : fi_H H t td 0 k = kl_H (kl_1 t) H k := by
  unfold fi_H
  by_cases c : H k = t + 1
  · have e : kl_H (kl_1 t) H k = 0 := if_pos ⟨by omega, decide_eq_true (by omega)⟩
    rw [if_pos c, e]
  · have e : kl_H (kl_1 t) H k = H k := if_neg (fun q => c (by have := of_decide_eq_true q.2; omega))
    rw [if_neg c, e]
    unfold kl_H
    rw [mi_K0]; simp
/-- first the fall, which takes t along -/
theorem yf_A2 {td m ev i : Nat} (hi : i < 4) (hAt : A t = true) (hev : (m = 3 ∧ ev = 2) ∨ (m < 3 ∧ m = td ∧ ev = 1 ∧ hn_k H td t 12 = true)) : fi_A A H t td ev i = kl_A (up_K (ck_K A H m) 4) A i := by
  show ((A i && !mi_K H t td ev i) && !decide (i = t)) = (A i && !(decide (i < 4) && (A i && (decide (m = 3) || hn_k H m i 12))))
  unfold mi_K
  by_cases c : i = t
  · subst c
    rcases hev with ⟨h1, h2⟩ | ⟨h0, h1, h2, h3⟩
    · subst h1 h2; simp [hi]
    · subst h1 h2; simp [hi, h3]
  · rcases hev with ⟨h1, h2⟩ | ⟨h0, h1, h2, h3⟩
    · subst h1 h2; simp [hi, c]
    · subst h1 h2
      have : ¬ m = 3 := by omega
      simp only [this, c, hi, decide_true, decide_false, Bool.not_false, Bool.true_and, Bool.and_true, Bool.false_or]
      cases A i <;> simp
theorem yf_H2 {td m ev k : Nat} (h5 : H k < 5) (hA : H k ≠ 0 → A (H k - 1) = true) (hAt : A t = true) (hev : (m = 3 ∧ ev = 2) ∨ (m < 3 ∧ m = td ∧ ev = 1 ∧ hn_k H td t 12 = true)) : fi_H H t td ev k = kl_H (up_K (ck_K A H m) 4) H k := by
  unfold fi_H
  by_cases z : H k = 0
  · rw [if_neg (by omega)]
    unfold kl_H
    rw [if_neg (fun q => q.1 z), if_neg (fun q => q.1 z)]
  · have h4 : H k - 1 < 4 := by omega
    have hu : up_K (ck_K A H m) 4 (H k - 1) = (decide (m = 3) || hn_k H m (H k - 1) 12) := by
      show (decide (H k - 1 < 4) && (A (H k - 1) && (decide (m = 3) || hn_k H m (H k - 1) 12))) = _
      rw [hA z]; simp [h4]
    by_cases c : H k = t + 1
    · rw [if_pos c]
      unfold kl_H
      rw [hu, if_pos]
      refine ⟨z, ?_⟩
      rcases hev with ⟨h1, h2⟩ | ⟨h0, h1, h2, h3⟩
      · simp [h1]
      · have : H k - 1 = t := by omega
        rw [this, h1, h3]; simp
    · rw [if_neg c]
      have ne : H k - 1 ≠ t := by omega
      unfold kl_H
      rw [hu]
      have hK : mi_K H t td ev (H k - 1) = (decide (m = 3) || hn_k H m (H k - 1) 12) := by
        unfold mi_K
        rcases hev with ⟨h1, h2⟩ | ⟨h0, h1, h2, h3⟩
        · subst h1 h2; simp [ne]
        · subst h1 h2
          have : ¬ m = 3 := by omega
          simp [ne, this]
      rw [hK]
/-- first the fall, which leaves t -/
theorem yf_A3 {td i : Nat} (hi : i < 4) : fi_A A H t td 1 i = kl_A (kl_1 t) (kl_A (up_K (ck_K A H td) 4) A) i ∨ td ≥ 3 := by
  by_cases h3 : td < 3
  · refine Or.inl ?_
    show ((A i && !mi_K H t td 1 i) && !decide (i = t)) = ((A i && !(decide (i < 4) && (A i && (decide (td = 3) || hn_k H td i 12)))) && !decide (i = t))
    unfold mi_K
    by_cases c : i = t
    · simp [c]
    · have : ¬ td = 3 := by omega
      simp only [this, c, hi, decide_true, decide_false, Bool.not_false, Bool.true_and, Bool.and_true, Bool.false_or]
      cases A i <;> simp
  · exact Or.inr (by omega)
theorem yf_H3 {td k : Nat} (h5 : H k < 5) (hA : H k ≠ 0 → A (H k - 1) = true) (h3 : td < 3) (hf : hn_k H td t 12 = false) (ht : t < 4) :
    kl_H (up_K (ck_K A H td) 4) H k = t + 1 ↔ H k = t + 1 := by
  unfold kl_H
  by_cases c : H k = t + 1
  · rw [if_neg]
    rintro ⟨_, q⟩
    rw [c] at q
    have q' : (decide (t < 4) && (A t && (decide (td = 3) || hn_k H td t 12))) = true := q
    have : ¬ td = 3 := by omega
    rw [hf] at q'
    simp [this] at q'
  · by_cases d : H k ≠ 0 ∧ up_K (ck_K A H td) 4 (H k - 1) = true
    · rw [if_pos d]; omega
    · rw [if_neg d]
theorem yf_H4 {td k : Nat} (h5 : H k < 5) (hA : H k ≠ 0 → A (H k - 1) = true) (h3 : td < 3) (hf : hn_k H td t 12 = false) (ht : t < 4) :
    fi_H H t td 1 k = kl_H (kl_1 t) (kl_H (up_K (ck_K A H td) 4) H) k := by
  have e3 := yf_H3 h5 hA h3 hf ht
  rw [show kl_H (kl_1 t) (kl_H (up_K (ck_K A H td) 4) H) k = (if kl_H (up_K (ck_K A H td) 4) H k ≠ 0 ∧ kl_1 t (kl_H (up_K (ck_K A H td) 4) H k - 1) = true then 0 else kl_H (up_K (ck_K A H td) 4) H k) from rfl]
  unfold fi_H
  by_cases c : H k = t + 1
  · rw [if_pos c, e3.mpr c, if_pos ⟨by omega, by unfold kl_1; simp⟩]
  · have ne : ¬ kl_H (up_K (ck_K A H td) 4) H k = t + 1 := fun q => c (e3.mp q)
    rw [if_neg c, if_neg (fun q => ne (by have := of_decide_eq_true q.2; omega))]
    unfold kl_H
    by_cases z : H k = 0
    · rw [if_neg (fun q => q.1 z), if_neg (fun q => q.1 z)]
    · have nt : H k - 1 ≠ t := by omega
      have h4 : H k - 1 < 4 := by omega
      have n3 : ¬ td = 3 := by omega
      have hK : mi_K H t td 1 (H k - 1) = up_K (ck_K A H td) 4 (H k - 1) := by
        show _ = (decide (H k - 1 < 4) && (A (H k - 1) && (decide (td = 3) || hn_k H td (H k - 1) 12)))
        rw [hA z, mi_K1 nt]
        simp [h4, n3]
      rw [hK]
theorem yo_commit {post : Int32 → SY → Prop} {pa tr td : Nat} (hR : ry_Y A N H S C yn yh ys yc ya) (ht : t < 4) (hA : A t = true) (hHA : ∀ k, k < 12 → H k ≠ 0 → A (H k - 1) = true) (htr : tr < 8) (htd : td < 3) (hbit : ∀ m, m < 3 → pa.testBit m = hn_k H m t 12)
    (h : ∀ yn' yh' ya', ry_Y (fi_A A H t td (cs_ev tr)) (fi_N N H S C t (cs_de pa tr td)) (fi_H H t td (cs_ev tr)) S C yn' yh' ys yc ya' → post (nI (cs_de pa tr td)) (dn + nI (cs_de pa tr td), yn', yh', ys, yc, ya')) :
    wpY_commit post (dn, yn, yh, ys, yc, ya) (nI t) (nI tr) (nI td) := by
  have h6 := hR.2.2.2.2.2
  unfold wpY_commit
  refine yo_open1 hR ht hA (br_f (by decide) ?_)
  refine br_f (nI_pos (by omega)) (br_f (nI_nlt (b := tr) (a := 7) (by omega) (by decide)) (br_f (nI_pos (by omega)) (br_t (nI_le (b := 2) (by omega) (by decide)) ?_)))
  have late : tr ≠ 1 → tr ≠ 2 → wY_commit_45 post (nI t) (nI tr) (nI td) 0 dn yn yh ys yc ya := by
    intro n1 n2
    have ed : cs_de pa tr td = 1 := (if_neg n2).trans (if_neg (fun q => n1 q.1))
    rw [ed] at h
    refine br_t rfl (yo_end (de := 1) (by decide) ht hR (fun yn' yh' ya' hR' => ?_))
    have fall : ∀ m, m < 4 → ((m = 3 ∧ cs_ev tr = 2) ∨ (m < 3 ∧ m = td ∧ cs_ev tr = 1)) → wpY_crash (fun r u => match u with | (f_done, a_numbers, a_holders, a_seen, a_changed, a_active) => wY_commit_98 post (nI t) 0 f_done a_numbers a_holders a_seen a_changed a_active) (dn + nI 1, yn', yh', ys, yc, ya') (nI m) := by
      intro m hm hev
      refine yo_crash hm hR' (fun yn'' yh'' ya'' hR'' => br_t rfl (br_t rfl ?_))
      exact h yn'' yh'' ya'' (ry_cong hR'' (fun i hi => yf_A hi hev) (fun _ _ => rfl) (fun k hk => yf_H (h6 k hk) (hHA k hk) hev) (fun _ _ _ => rfl) (fun _ _ _ => rfl))
    have none : cs_ev tr = 0 → wY_commit_98 post (nI t) 0 (dn + nI 1) yn' yh' ys yc ya' := by
      intro e
      rw [e] at h
      exact br_t rfl (br_t rfl (h yn' yh' ya' (ry_cong hR' (fun i _ => yf_A0) (fun _ _ => rfl) (fun k _ => yf_H0) (fun _ _ _ => rfl) (fun _ _ _ => rfl))))
    show wY_commit_58 post (nI t) (nI tr) (nI td) 0 (dn + nI 1) yn' yh' ys yc ya'
    unfold wY_commit_58
    refine pk_eq (x := nI tr) (y := 2) tr 2 (fun z => absurd z n2) (fun _ => ?_) rfl rfl
    refine pk_eq (x := nI tr) (y := 3) tr 3 (fun z => ?_) (fun z3 => ?_) rfl rfl
    · exact fall 3 (by decide) (Or.inl ⟨rfl, by rw [z]; rfl⟩)
    refine pk_eq (x := nI tr) (y := 1) tr 1 (fun z => absurd z n1) (fun _ => ?_) rfl rfl
    refine pk_eq (x := nI tr) (y := 4) tr 4 (fun z => ?_) (fun z4 => ?_) rfl rfl
    · exact fall td (by omega) (Or.inr ⟨htd, rfl, by rw [z]; rfl⟩)
    refine pk_eq (x := nI tr) (y := 5) tr 5 (fun z => ?_) (fun z5 => ?_) rfl rfl
    · exact fall td (by omega) (Or.inr ⟨htd, rfl, by rw [z]; rfl⟩)
    · exact none ((if_neg (by omega)).trans (if_neg (by omega)))
  refine pk_eq (x := nI tr) (y := 1) tr 1 (fun z1 => ?_) (fun n1 => pk_eq (x := nI tr) (y := 2) tr 2 (fun z2 => ?_) (fun n2 => late n1 n2) rfl rfl) rfl rfl
  · subst z1
    show wY_commit_45 post (nI t) (nI 1) (nI td) 1 dn yn yh ys yc ya
    have ev1 : cs_ev 1 = 1 := rfl
    rw [ev1] at h
    refine br_f (by decide) ?_
    show wY_commit_58 post (nI t) (nI 1) (nI td) 1 dn yn yh ys yc ya
    unfold wY_commit_58
    refine br_f (by decide) (br_f (by decide) (br_t rfl ?_))
    refine yo_crash (m := td) (by omega) hR (fun yn' yh' ya' hR' => ?_)
    have hact : ya' (nI t).toNatClampNeg = zt_bI (!hn_k H td t 12) := by
      rw [zt_cl (by omega), hR'.2.2.2.2.1 t ht]
      have : ¬ td = 3 := by omega
      show zt_bI (A t && !(decide (t < 4) && (A t && (decide (td = 3) || hn_k H td t 12)))) = _
      rw [hA]
      simp [ht, this]
    refine br_f (by decide) (And.intro (vp_in_nI ht (by decide)) ?_)
    rw [hact]
    have hb := hbit td htd
    cases hh : hn_k H td t 12 with
    | true =>
      rw [hh] at hb
      have ed : cs_de pa 1 td = 0 := (if_neg (by decide)).trans (if_pos ⟨rfl, hb⟩)
      rw [ed] at h
      have := h yn' yh' ya' (ry_cong hR' (fun i hi => yf_A2 hi hA (Or.inr ⟨htd, rfl, rfl, hh⟩)) (fun k _ => fi_N0 _ _ _ _ _ k) (fun k hk => yf_H2 (h6 k hk) (hHA k hk) hA (Or.inr ⟨htd, rfl, rfl, hh⟩)) (fun _ _ _ => rfl) (fun _ _ _ => rfl))
      rw [show dn + nI 0 = dn from Int32.add_zero dn] at this
      exact br_t rfl (br_f (by decide) this)
    | false =>
      rw [hh] at hb
      have ed : cs_de pa 1 td = 1 := (if_neg (by decide)).trans (if_neg (fun q => absurd (hb.symm.trans q.2) (by decide)))
      rw [ed] at h
      refine br_f (by decide) (yo_end (de := 1) (by decide) ht hR' (fun yn'' yh'' ya'' hR'' => ?_))
      refine h yn'' yh'' ya'' (ry_cong hR'' (fun i hi => ?_) (fun k hk => ?_) (fun k hk => yf_H4 (h6 k hk) (hHA k hk) htd hh ht) (fun _ _ _ => rfl) (fun _ _ _ => rfl))
      · rcases yf_A3 (A := A) (H := H) (t := t) (td := td) hi with q | q
        · exact q
        · omega
      · have e3 := yf_H3 (A := A) (h6 k hk) (hHA k hk) htd hh ht
        unfold fi_N
        by_cases c : 1 = 1 ∧ H k = t + 1 ∧ C k = true
        · rw [if_pos c, if_pos ⟨rfl, e3.mpr c.2.1, c.2.2⟩]
        · rw [if_neg c, if_neg (fun q => c ⟨rfl, e3.mp q.2.1, q.2.2⟩)]
  · subst z2
    show wY_commit_45 post (nI t) (nI 2) (nI td) 1 dn yn yh ys yc ya
    have ev2 : cs_ev 2 = 2 := rfl
    have ed : cs_de pa 2 td = 0 := rfl
    rw [ev2, ed] at h
    refine br_f (by decide) ?_
    show wY_commit_58 post (nI t) (nI 2) (nI td) 1 dn yn yh ys yc ya
    unfold wY_commit_58
    refine br_t rfl ?_
    refine yo_crash (m := 3) (by decide) hR (fun yn' yh' ya' hR' => ?_)
    have hact : ya' (nI t).toNatClampNeg = 0 := by
      rw [zt_cl (by omega), hR'.2.2.2.2.1 t ht]
      show zt_bI (A t && !(decide (t < 4) && (A t && (decide (3 = 3) || hn_k H 3 t 12)))) = _
      rw [hA]
      simp [ht, zt_bI]
    refine br_f (by decide) (And.intro (vp_in_nI ht (by decide)) ?_)
    rw [hact]
    have := h yn' yh' ya' (ry_cong hR' (fun i hi => yf_A2 hi hA (Or.inl ⟨rfl, rfl⟩)) (fun k _ => fi_N0 _ _ _ _ _ k) (fun k hk => yf_H2 (h6 k hk) (hHA k hk) hA (Or.inl ⟨rfl, rfl⟩)) (fun _ _ _ => rfl) (fun _ _ _ => rfl))
    rw [show dn + nI 0 = dn from Int32.add_zero dn] at this
    exact br_t rfl (br_f (by decide) this)
theorem yo_commit0 {post : Int32 → SY → Prop} {v1 v2 v3 : Int32} (hR : ry_Y A N H S C yn yh ys yc ya) (hn : ¬ co_ok A v1 v2 v3) (h : post (-100000) (dn, yn, yh, ys, yc, ya)) : wpY_commit post (dn, yn, yh, ys, yc, ya) v1 v2 v3 := by
  unfold wpY_commit
  by_cases c : op_n A v1
  · obtain ⟨t, ht, rfl, hA⟩ := c
    refine yo_open1 hR ht hA (br_f (by decide) ?_)
    refine br_c (fun _ => h) (fun z1 => br_c (fun _ => h) (fun z2 => br_c (fun _ => h) (fun z3 => br_c (fun z4 => ?_) (fun _ => h))))
    obtain ⟨tr, h1, rfl⟩ := nI_of z1
    obtain ⟨td, h2, rfl⟩ := nI_of z3
    rw [show (7 : Int32) = nI 7 from rfl, nI_ltI (by decide) h1] at z2
    rw [show (2 : Int32) = nI 2 from rfl, nI_leI h2 (by decide)] at z4
    exact absurd ⟨⟨t, ht, rfl, hA⟩, ⟨tr, by omega, rfl⟩, ⟨td, by omega, rfl⟩⟩ hn
  · exact yo_open0 hR c (br_t rfl h)
end
end
section
/-! ===== what holds of the numbers, holders and writes at every turn ===== -/
def wf_W (A : Nat → Bool) (N : Nat → Int32) (H : Nat → Nat) (S : Nat → Int32) (C : Nat → Bool) : Prop :=
  ∀ k, k < 12 → H k < 5 ∧ (H k ≠ 0 → A (H k - 1) = true) ∧ (H k ≠ 0 → C k = false → S k = N k) ∧ nu_m (N k) ∧ (H k ≠ 0 → nu_m (S k))
section
variable {t : Nat} {A : Nat → Bool} {N : Nat → Int32} {H : Nat → Nat} {S : Nat → Int32} {C : Nat → Bool}
theorem wf_se (h : wf_W A N H S C) {k : Nat} (hk : k < 12) : nu_m (se_n N H S t k) := by
  obtain ⟨h1, h2, h3, h4, h5⟩ := h k hk
  unfold se_n
  by_cases c : H k = t + 1
  · rw [if_pos c]; exact h5 (by omega)
  · rw [if_neg c]; exact h4
theorem wf_write (h : wf_W A N H S C) {k : Nat} {v : Int32} (ht : t < 4) (hA : A t = true) (hv : nu_m v) : wf_W A N (zt_un H k (t + 1)) (upd S k v) (zt_ub C k true) := by
  intro i hi
  obtain ⟨h1, h2, h3, h4, h5⟩ := h i hi
  unfold zt_un upd zt_ub
  by_cases c : i = k
  · simp only [if_pos c]
    exact ⟨by omega, fun _ => hA, fun _ q => absurd q (by decide), h4, fun _ => hv⟩
  · simp only [if_neg c]
    exact ⟨h1, h2, h3, h4, h5⟩
theorem wf_get (h : wf_W A N H S C) {k : Nat} (ht : t < 4) (hA : A t = true) (hk : k < 12) : wf_W A N (zt_un H k (t + 1)) (upd S k (se_n N H S t k)) (zt_ub C k (decide (H k = t + 1) && C k)) := by
  intro i hi
  obtain ⟨h1, h2, h3, h4, h5⟩ := h i hi
  unfold zt_un upd zt_ub
  by_cases c : i = k
  · subst c
    simp only [eq_self, if_true]
    refine ⟨by omega, fun _ => hA, fun _ q => ?_, h4, fun _ => wf_se h hi⟩
    unfold se_n
    by_cases e : H i = t + 1
    · rw [if_pos e]
      exact h3 (by omega) (by simpa [e] using q)
    · rw [if_neg e]
  · simp only [if_neg c]
    exact ⟨h1, h2, h3, h4, h5⟩
theorem wf_kill (h : wf_W A N H S C) (K : Nat → Bool) : wf_W (kl_A K A) N (kl_H K H) S C := by
  intro i hi
  obtain ⟨h1, h2, h3, h4, h5⟩ := h i hi
  unfold kl_H
  by_cases c : H i ≠ 0 ∧ K (H i - 1) = true
  · simp only [if_pos c]
    exact ⟨by omega, fun q => absurd rfl q, fun q => absurd rfl q, h4, fun q => absurd rfl q⟩
  · simp only [if_neg c]
    refine ⟨h1, fun q => ?_, h3, h4, h5⟩
    unfold kl_A
    rw [h2 q]
    cases e : K (H i - 1)
    · rfl
    · exact absurd ⟨q, e⟩ c
theorem wf_begin (h : wf_W A N H S C) : wf_W (zt_ub A t true) N H S C := by
  intro i hi
  obtain ⟨h1, h2, h3, h4, h5⟩ := h i hi
  refine ⟨h1, fun q => ?_, h3, h4, h5⟩
  unfold zt_ub
  by_cases c : H i - 1 = t
  · rw [if_pos c]
  · rw [if_neg c]; exact h2 q
theorem wf_fin (h : wf_W A N H S C) (td ev de : Nat) : wf_W (fi_A A H t td ev) (fi_N N H S C t de) (fi_H H t td ev) S C := by
  intro i hi
  obtain ⟨h1, h2, h3, h4, h5⟩ := h i hi
  have hn : nu_m (fi_N N H S C t de i) := by
    unfold fi_N
    by_cases c : de = 1 ∧ H i = t + 1 ∧ C i = true
    · rw [if_pos c]; exact h5 (by omega)
    · rw [if_neg c]; exact h4
  by_cases c : H i = t + 1
  · have e : fi_H H t td ev i = 0 := if_pos c
    rw [e]
    exact ⟨by omega, fun q => absurd rfl q, fun q => absurd rfl q, hn, fun q => absurd rfl q⟩
  · have e : fi_H H t td ev i = kl_H (mi_K H t td ev) H i := if_neg c
    have en : fi_N N H S C t de i = N i := if_neg (fun q => c q.2.1)
    rw [e, en]
    unfold kl_H
    by_cases d : H i ≠ 0 ∧ mi_K H t td ev (H i - 1) = true
    · simp only [if_pos d]
      exact ⟨by omega, fun q => absurd rfl q, fun q => absurd rfl q, h4, fun q => absurd rfl q⟩
    · simp only [if_neg d]
      refine ⟨h1, fun q => ?_, h3, h4, h5⟩
      show ((A (H i - 1) && !mi_K H t td ev (H i - 1)) && !decide (H i - 1 = t)) = true
      have nt : ¬ H i - 1 = t := by omega
      rw [h2 q]
      cases f : mi_K H t td ev (H i - 1)
      · simp [nt]
      · exact absurd ⟨q, f⟩ d
theorem be_least (A : Nat → Bool) : (∀ j, j < 4 → A j = true) ∨ ∃ t, t < 4 ∧ A t = false ∧ ∀ j, j < t → A j = true := by
  cases h0 : A 0 with
  | false => exact Or.inr ⟨0, by omega, h0, fun j hj => absurd hj (Nat.not_lt_zero j)⟩
  | true =>
    cases h1 : A 1 with
    | false => exact Or.inr ⟨1, by omega, h1, fun j hj => by have : j = 0 := by omega
                                                             rw [this]; exact h0⟩
    | true =>
      cases h2 : A 2 with
      | false => exact Or.inr ⟨2, by omega, h2, fun j hj => by
          have : j = 0 ∨ j = 1 := by omega
          rcases this with q | q <;> rw [q] <;> assumption⟩
      | true =>
        cases h3 : A 3 with
        | false => exact Or.inr ⟨3, by omega, h3, fun j hj => by
            have : j = 0 ∨ j = 1 ∨ j = 2 := by omega
            rcases this with q | q | q <;> rw [q] <;> assumption⟩
        | true => exact Or.inl (fun j hj => by
            have : j = 0 ∨ j = 1 ∨ j = 2 ∨ j = 3 := by omega
            rcases this with q | q | q | q <;> rw [q] <;> assumption)
theorem to_eq (N : Nat → Int32) : sm_s N 0 12 + sm_s N 1 12 + sm_s N 2 12 = 0 + N 0 + N 1 + N 2 + N 3 + N 4 + N 5 + N 6 + N 7 + N 8 + N 9 + N 10 + N 11 := by
  rw [sm_e N (by decide), sm_e N (by decide), sm_e N (by decide)]
  show 0 + N 0 + N 3 + N 6 + N 9 + (0 + N 1 + N 4 + N 7 + N 10) + (0 + N 2 + N 5 + N 8 + N 11) = _
  generalize N 0 = a0
  generalize N 1 = a1
  generalize N 2 = a2
  generalize N 3 = a3
  generalize N 4 = a4
  generalize N 5 = a5
  generalize N 6 = a6
  generalize N 7 = a7
  generalize N 8 = a8
  generalize N 9 = a9
  generalize N 10 = a10
  generalize N 11 = a11
  grind
end
end
section
/-! ===== what is owed ===== -/
def i_Rel (k : Nat) (u : SX) (v : SY) : Prop :=
  ∃ A N H S C dn nm, nm ≤ k ∧ wf_W A N H S C ∧ xi_X A N H S C dn nm u ∧ ∃ yn yh ys yc ya, v = (dn, yn, yh, ys, yc, ya) ∧ ry_Y A N H S C yn yh ys yc ya
theorem re_in {k nm : Nat} {A : Nat → Bool} {N : Nat → Int32} {H : Nat → Nat} {S : Nat → Int32} {C : Nat → Bool} {dn : Int32} {u : SX} {yn yh ys yc ya : Nat → Int32} (h1 : nm ≤ k) (h2 : wf_W A N H S C) (h3 : xi_X A N H S C dn nm u) (h4 : ry_Y A N H S C yn yh ys yc ya) : i_Rel k u (dn, yn, yh, ys, yc, ya) :=
  ⟨A, N, H, S, C, dn, nm, h1, h2, h3, yn, yh, ys, yc, ya, rfl, h4⟩
theorem re_el {k : Nat} {u : SX} {v : SY} {P : SX → SY → Prop}
    (h : ∀ (A : Nat → Bool) (N : Nat → Int32) (H : Nat → Nat) (S : Nat → Int32) (C : Nat → Bool) (dn : Int32) (nm : Nat) (B : ty_B) (V : ty_V) (Q : ty_Q) (L : ty_L) (D : ty_D) (p g yn yh ys yc ya : Nat → Int32), nm ≤ k → wf_W A N H S C → B.1 = nI nm → B.2.2.2.2.2.2 = dn → V.1 = 0 → co_re A N H S C D → il_g L nm N → (∀ j, j < 12 → p j = 0) → (∀ t', t' < 4 → A t' = true → ∀ m, m < 3 → g (t' * 3 + m) = 0) → ry_Y A N H S C yn yh ys yc ya → P (mk_X B V Q L D p g) (dn, yn, yh, ys, yc, ya))
    (I : i_Rel k u v) : P u v := by
  obtain ⟨A, N, H, S, C, dn, nm, h1, h2, ⟨B, V, Q, L, D, p, g, h3, a1, a2, a3, a4, a5, a6, a7⟩, yn, yh, ys, yc, ya, h4, h5⟩ := I
  rw [h3, h4]
  exact h A N H S C dn nm B V Q L D p g yn yh ys yc ya h1 h2 a1 a2 a3 a4 a5 a6 a7 h5
theorem i_up {k : Nat} {u : SX} {v : SY} (h : i_Rel k u v) : i_Rel (k + 4) u v := by
  obtain ⟨A, N, H, S, C, dn, nm, h1, h2⟩ := h
  exact ⟨A, N, H, S, C, dn, nm, by omega, h2⟩
theorem i_vc0 : wpX_init (fun u => wpY_init (fun v => i_Rel 0 u v)) := by
  have go : ∀ r k f (ho : Nat → Int32), k + r = 12 → r < f → (∀ i, i < k → ho i = -1) → wX_init_136 (fun u => wpY_init (fun v => i_Rel 0 u v)) 0 0 0 0 0 0 0 0 0 0 0 0 0 0 0 0 f (nI k) (fun _ => 0) (fun _ => 0) (fun _ => 0) (fun _ => 0) (fun _ => 0) (fun _ => 0) (fun _ => 0) ho (fun _ => 0) (fun _ => 0) (fun _ => 0) (fun _ => 0) (fun _ => 0) (fun _ => 0) (fun _ => 0) (fun _ => 0) := by
    intro r
    induction r with
    | zero =>
      intro k f ho hk hf hh
      cases f with
      | zero => omega
      | succ f =>
        have : k = 12 := by omega
        subst this
        refine br_t (zt_ge12 (by omega) (by omega)) ?_
        refine re_in (nm := 0) (A := fun _ => false) (N := fun _ => 0) (H := fun _ => 0) (S := fun _ => 0) (C := fun _ => false) (Nat.le_refl 0) (fun i _ => ⟨Nat.zero_lt_succ 4, fun q => absurd rfl q, fun q => absurd rfl q, (show -9999 ≤ (0 : Int32).toInt ∧ (0 : Int32).toInt ≤ 9999 by decide), fun q => absurd rfl q⟩) ?_ ?_
        · refine ⟨(0, 0, 0, 0, 0, 0, 0), (0, 0, 0, 0), (0, 0, 0, 0, fun _ => 0, fun _ => 0, fun _ => 0, fun _ => 0), (fun _ => 0, fun _ => 0, fun _ => 0, fun _ => 0, fun _ => 0, fun _ => 0), (0, fun _ => 0, ho, fun _ => 0, fun _ => 0), fun _ => 0, fun _ => 0, rfl, rfl, rfl, rfl, ?_, ⟨fun m _ => ⟨0, by omega, lg_empty rfl (fun _ _ _ => rfl)⟩, 0, by omega, rfl, fun i hi => absurd hi (Nat.not_lt_zero i)⟩, fun _ _ => rfl, fun _ _ _ _ _ => rfl⟩
          refine ⟨fun i hi => ?_, fun _ _ => rfl, fun i hi => ?_, fun t ht i hi => ?_, fun t ht i hi e => absurd e (Nat.succ_ne_zero t).symm, fun _ _ => Nat.zero_lt_succ 4⟩
          · show bt 0 i = _
            rw [b_0]; simp
          · show ho i = _
            rw [hh i hi]; rfl
          · show bt 0 i = _
            rw [b_0]; simp
        · exact ⟨fun _ _ => rfl, fun _ _ => rfl, fun _ _ q => absurd rfl q, fun _ _ q => absurd rfl q, fun _ _ => rfl, fun _ _ => Nat.zero_lt_succ 4⟩
    | succ r ih =>
      intro k f ho hk hf hh
      cases f with
      | zero => omega
      | succ f =>
        have hk12 : k < 12 := by omega
        refine br_f (zt_le12 hk12) (And.intro (vp_in_nI hk12 (by decide)) (nm_r (e' := upd ho k (-1)) (by rw [zt_cl (by omega), zt_m1]) (nm_r (nI_1 k) (ih (k + 1) f _ (by omega) (by omega) (fun i hi => ?_)))))
        unfold upd
        by_cases c : i = k
        · rw [if_pos c]
        · rw [if_neg c]; exact hh i (by omega)
  exact Exists.intro 13 (go 12 0 13 (fun _ => 0) (by omega) (by omega) (fun i hi => absurd hi (Nat.not_lt_zero i)))
theorem i_vc_begin {k : Nat} {u : SX} {v : SY} (I : i_Rel k u v) (hk : k + 4 ≤ 2048) : wpX_begin (fun r u' => wpY_begin (fun r' v' => r' = r ∧ i_Rel (k + 4) u' v') v) u := by
  refine re_el (P := fun u v => wpX_begin (fun r u' => wpY_begin (fun r' v' => r' = r ∧ i_Rel (k + 4) u' v') v) u) ?_ I
  intro A N H S C dn nm B V Q L D p g yn yh ys yc ya hn hw hB1 hB2 hV hC hL hp hg hR
  rcases be_least A with ha | ⟨t, ht, hf, hb⟩
  · exact xp_beg0 hC ha (yo_beg0 hR ha ⟨rfl, re_in (by omega) hw ⟨B, V, Q, L, D, p, g, rfl, hB1, hB2, hV, hC, hL, hp, hg⟩ hR⟩)
  · refine xp_beg1 hC ht hf hb (fun k hk q => ?_) (fun D' hC' => yo_beg1 hR ht hf hb (fun ya' hR' => ⟨rfl, re_in (nm := nm) (by omega) (wf_begin hw) ⟨B, V, Q, L, D', _, _, rfl, hB1, hB2, hV, hC', hL, fun j hj => ?_, fun t' ht' hA' m hm => ?_⟩ hR'⟩))
    · have := (hw k hk).2.1 (by omega)
      rw [q] at this
      exact absurd (hf.symm.trans this) (by decide)
    · rw [pr_0e, hp j hj]
      split <;> rfl
    · rw [pr_0e]
      by_cases c : (t' * 3 + m) / 3 = t
      · rw [if_pos c]
      · rw [if_neg c]
        refine hg t' ht' ?_ m hm
        unfold zt_ub at hA'
        rw [if_neg (by omega)] at hA'
        exact hA'
theorem i_vc_get {k : Nat} {u : SX} {v : SY} (I : i_Rel k u v) (hk : k + 4 ≤ 2048) (v1 : Int32) (v2 : Int32) : wpX_get (fun r u' => wpY_get (fun r' v' => r' = r ∧ i_Rel (k + 4) u' v') v v1 v2) u v1 v2 := by
  refine re_el (P := fun u v => wpX_get (fun r u' => wpY_get (fun r' v' => r' = r ∧ i_Rel (k + 4) u' v') v v1 v2) u v1 v2) ?_ I
  intro A N H S C dn nm B V Q L D p g yn yh ys yc ya hn hw hB1 hB2 hV hC hL hp hg hR
  have same : i_Rel (k + 4) (mk_X B V Q L D p g) (dn, yn, yh, ys, yc, ya) := re_in (by omega) hw ⟨B, V, Q, L, D, p, g, rfl, hB1, hB2, hV, hC, hL, hp, hg⟩ hR
  by_cases c : op_n A v1 ∧ ke_y v2
  · obtain ⟨⟨t, ht, rfl, hA⟩, i, hi, rfl⟩ := c
    by_cases f : H i = 0 ∨ H i = t + 1
    · exact xp_get hC ht hA hi f (hw i hi).2.2.1 (fun D' hC' => yo_get hR ht hA hi f (fun yh' ys' yc' hR' => ⟨rfl, re_in (nm := nm) (by omega) (wf_get hw ht hA hi) ⟨B, V, Q, L, D', p, g, rfl, hB1, hB2, hV, hC', hL, hp, hg⟩ hR'⟩))
    · exact xp_getB hC ht hA hi f (yo_getB hR ht hA hi f ⟨rfl, same⟩)
  · exact xp_get0 hC c (yo_get0 hR c ⟨rfl, same⟩)
theorem i_vc_put {k : Nat} {u : SX} {v : SY} (I : i_Rel k u v) (hk : k + 4 ≤ 2048) (v1 : Int32) (v2 : Int32) (v3 : Int32) : wpX_put (fun r u' => wpY_put (fun r' v' => r' = r ∧ i_Rel (k + 4) u' v') v v1 v2 v3) u v1 v2 v3 := by
  refine re_el (P := fun u v => wpX_put (fun r u' => wpY_put (fun r' v' => r' = r ∧ i_Rel (k + 4) u' v') v v1 v2 v3) u v1 v2 v3) ?_ I
  intro A N H S C dn nm B V Q L D p g yn yh ys yc ya hn hw hB1 hB2 hV hC hL hp hg hR
  have same : i_Rel (k + 4) (mk_X B V Q L D p g) (dn, yn, yh, ys, yc, ya) := re_in (by omega) hw ⟨B, V, Q, L, D, p, g, rfl, hB1, hB2, hV, hC, hL, hp, hg⟩ hR
  by_cases c : op_n A v1 ∧ ke_y v2 ∧ nu_m v3
  · obtain ⟨⟨t, ht, rfl, hA⟩, ⟨i, hi, rfl⟩, hv⟩ := c
    by_cases f : H i = 0 ∨ H i = t + 1
    · exact xp_put hC ht hA hi hv f (hw i hi).2.2.1 (fun D' hC' => yo_put hR ht hA hi hv f (wf_se hw hi) (fun yh' ys' yc' hR' => ⟨rfl, re_in (nm := nm) (by omega) (wf_write hw ht hA hv) ⟨B, V, Q, L, D', p, g, rfl, hB1, hB2, hV, hC', hL, hp, hg⟩ hR'⟩))
    · exact xp_putB hC ht hA hi hv f (yo_putB hR ht hA hi hv f ⟨rfl, same⟩)
  · exact xp_put0 hC c (yo_put0 hR c ⟨rfl, same⟩)
theorem i_vc_move {k : Nat} {u : SX} {v : SY} (I : i_Rel k u v) (hk : k + 4 ≤ 2048) (v1 : Int32) (v2 : Int32) (v3 : Int32) : wpX_move (fun r u' => wpY_move (fun r' v' => r' = r ∧ i_Rel (k + 4) u' v') v v1 v2 v3) u v1 v2 v3 := by
  refine re_el (P := fun u v => wpX_move (fun r u' => wpY_move (fun r' v' => r' = r ∧ i_Rel (k + 4) u' v') v v1 v2 v3) u v1 v2 v3) ?_ I
  intro A N H S C dn nm B V Q L D p g yn yh ys yc ya hn hw hB1 hB2 hV hC hL hp hg hR
  have same : i_Rel (k + 4) (mk_X B V Q L D p g) (dn, yn, yh, ys, yc, ya) := re_in (by omega) hw ⟨B, V, Q, L, D, p, g, rfl, hB1, hB2, hV, hC, hL, hp, hg⟩ hR
  by_cases c : mv_ok A v1 v2 v3
  · obtain ⟨⟨t, ht, rfl, hA⟩, ⟨b, hb, rfl, hne⟩, a, ha, rfl⟩ := c
    have hs : ∀ i, i < 12 → nu_m (se_n N H S t i) := fun i hi => wf_se hw hi
    refine xp_move hC ht hA hb hne ha (fun i hi => (hw i hi).2.2.1) (fun q => ?_) (fun q1 q2 q3 => ?_) (fun q1 q2 q3 q4 D' hC' => ?_)
    · exact yo_move hR ht hA hb hne ha hs (fun _ => ⟨rfl, same⟩) (fun w1 w2 _ => absurd ⟨w1, w2⟩ q) (fun w1 w2 _ _ => absurd ⟨w1, w2⟩ q)
    · exact yo_move hR ht hA hb hne ha hs (fun w => absurd ⟨q1, q2⟩ w) (fun _ _ _ => ⟨rfl, same⟩) (fun _ _ w3 w4 => absurd ⟨w3, w4⟩ q3)
    · exact yo_move hR ht hA hb hne ha hs (fun w => absurd ⟨q1, q2⟩ w) (fun _ _ w => absurd ⟨q3, q4⟩ w) (fun _ _ _ _ yh' ys' yc' hR' => ⟨rfl, re_in (nm := nm) (by omega) (wf_write (wf_write hw ht hA q3) ht hA q4) ⟨B, V, Q, L, D', p, g, rfl, hB1, hB2, hV, hC', hL, hp, hg⟩ hR'⟩)
  · exact xp_move0 hC c (yo_move0 hR c ⟨rfl, same⟩)
theorem i_vc_commit {k : Nat} {u : SX} {v : SY} (I : i_Rel k u v) (hk : k + 4 ≤ 2048) (v1 : Int32) (v2 : Int32) (v3 : Int32) : wpX_commit (fun r u' => wpY_commit (fun r' v' => r' = r ∧ i_Rel (k + 4) u' v') v v1 v2 v3) u v1 v2 v3 := by
  refine re_el (P := fun u v => wpX_commit (fun r u' => wpY_commit (fun r' v' => r' = r ∧ i_Rel (k + 4) u' v') v v1 v2 v3) u v1 v2 v3) ?_ I
  intro A N H S C dn nm B V Q L D p g yn yh ys yc ya hn hw hB1 hB2 hV hC hL hp hg hR
  have same : i_Rel (k + 4) (mk_X B V Q L D p g) (dn, yn, yh, ys, yc, ya) := re_in (by omega) hw ⟨B, V, Q, L, D, p, g, rfl, hB1, hB2, hV, hC, hL, hp, hg⟩ hR
  by_cases c : co_ok A v1 v2 v3
  · obtain ⟨⟨t, ht, rfl, hA⟩, ⟨tr, htr, rfl⟩, td, htd, rfl⟩ := c
    have hHA : ∀ i, i < 12 → H i ≠ 0 → A (H i - 1) = true := fun i hi => (hw i hi).2.1
    refine xp_commit hC hL hp hg hB1 hB2 (by omega) ht hA (fun i hi => (hw i hi).1) hHA htr htd (fun pa hbit u' hx => ?_)
    exact yo_commit hR ht hA hHA htr htd hbit (fun yn' yh' ya' hR' => ⟨rfl, re_in (nm := nm + 1) (by omega) (wf_fin hw td (cs_ev tr) (cs_de pa tr td)) hx hR'⟩)
  · exact xp_commit0 hC c (yo_commit0 hR c ⟨rfl, same⟩)
theorem i_vc_abort {k : Nat} {u : SX} {v : SY} (I : i_Rel k u v) (hk : k + 4 ≤ 2048) (v1 : Int32) : wpX_abort (fun r u' => wpY_abort (fun r' v' => r' = r ∧ i_Rel (k + 4) u' v') v v1) u v1 := by
  refine re_el (P := fun u v => wpX_abort (fun r u' => wpY_abort (fun r' v' => r' = r ∧ i_Rel (k + 4) u' v') v v1) u v1) ?_ I
  intro A N H S C dn nm B V Q L D p g yn yh ys yc ya hn hw hB1 hB2 hV hC hL hp hg hR
  have same : i_Rel (k + 4) (mk_X B V Q L D p g) (dn, yn, yh, ys, yc, ya) := re_in (by omega) hw ⟨B, V, Q, L, D, p, g, rfl, hB1, hB2, hV, hC, hL, hp, hg⟩ hR
  by_cases c : op_n A v1
  · obtain ⟨t, ht, rfl, hA⟩ := c
    refine xp_abort hC ht hA (fun D' hC' => yo_abort hR ht hA (fun yn' yh' ya' hR' => ⟨rfl, re_in (nm := nm) (by omega) (wf_kill hw (kl_1 t)) ⟨B, V, Q, L, D', _, g, rfl, hB1, hB2, hV, hC', hL, fun j hj => ?_, fun t' ht' hA' m hm => ?_⟩ hR'⟩))
    · rw [pr_0e, hp j hj]
      split <;> rfl
    · unfold kl_A at hA'
      rw [Bool.and_eq_true] at hA'
      exact hg t' ht' hA'.1 m hm
  · exact xp_abort0 hC c (yo_abort0 hR c ⟨rfl, same⟩)
theorem i_vc_crash {k : Nat} {u : SX} {v : SY} (I : i_Rel k u v) (hk : k + 4 ≤ 2048) (v1 : Int32) : wpX_crash (fun r u' => wpY_crash (fun r' v' => r' = r ∧ i_Rel (k + 4) u' v') v v1) u v1 := by
  refine re_el (P := fun u v => wpX_crash (fun r u' => wpY_crash (fun r' v' => r' = r ∧ i_Rel (k + 4) u' v') v v1) u v1) ?_ I
  intro A N H S C dn nm B V Q L D p g yn yh ys yc ya hn hw hB1 hB2 hV hC hL hp hg hR
  have same : i_Rel (k + 4) (mk_X B V Q L D p g) (dn, yn, yh, ys, yc, ya) := re_in (by omega) hw ⟨B, V, Q, L, D, p, g, rfl, hB1, hB2, hV, hC, hL, hp, hg⟩ hR
  by_cases c : ∃ m, m < 4 ∧ v1 = nI m
  · obtain ⟨m, hm, rfl⟩ := c
    refine xp_crash hC hL hV (fun i hi => (hw i hi).2.1) hm hp (fun D' p' g' hC' hp' hg' => yo_crash hm hR (fun yn' yh' ya' hR' => ⟨rfl, re_in (nm := nm) (by omega) (wf_kill hw _) ⟨B, V, Q, L, D', p', g', rfl, hB1, hB2, hV, hC', hL, hp', fun t' ht' hA' m hm => ?_⟩ hR'⟩))
    unfold kl_A at hA'
    rw [Bool.and_eq_true] at hA'
    rw [hg']
    exact hg t' ht' hA'.1 m hm
  · exact xp_crash0 c (yo_crash0 c ⟨rfl, same⟩)
theorem i_vc_peek {k : Nat} {u : SX} {v : SY} (I : i_Rel k u v) (hk : k + 4 ≤ 2048) (v1 : Int32) : wpX_peek (fun r => wpY_peek (fun r' => r' = r ∧ i_Rel (k + 4) u v) v v1) u v1 := by
  have same := i_up I
  refine re_el (P := fun u' v' => wpX_peek (fun r => wpY_peek (fun r' => r' = r ∧ i_Rel (k + 4) u v) v' v1) u' v1) ?_ I
  intro A N H S C dn nm B V Q L D p g yn yh ys yc ya hn hw hB1 hB2 hV hC hL hp hg hR
  by_cases c : ke_y v1
  · obtain ⟨i, hi, rfl⟩ := c
    exact xp_peek hC hi (yo_peek hR hi ⟨rfl, same⟩)
  · exact xp_peek0 c (yo_peek0 c ⟨rfl, same⟩)
theorem i_vc_open {k : Nat} {u : SX} {v : SY} (I : i_Rel k u v) (hk : k + 4 ≤ 2048) : wpX_open (fun r => wpY_open (fun r' => r' = r ∧ i_Rel (k + 4) u v) v) u := by
  have same := i_up I
  refine re_el (P := fun u' v' => wpX_open (fun r => wpY_open (fun r' => r' = r ∧ i_Rel (k + 4) u v) v') u') ?_ I
  intro A N H S C dn nm B V Q L D p g yn yh ys yc ya hn hw hB1 hB2 hV hC hL hp hg hR
  exact yo_open hR (fun y hy => ⟨b_ext (fun i hi => (hy i hi).trans (hC.1 i hi).symm), same⟩)
theorem i_vc_holder {k : Nat} {u : SX} {v : SY} (I : i_Rel k u v) (hk : k + 4 ≤ 2048) (v1 : Int32) : wpX_holder (fun r => wpY_holder (fun r' => r' = r ∧ i_Rel (k + 4) u v) v v1) u v1 := by
  have same := i_up I
  refine re_el (P := fun u' v' => wpX_holder (fun r => wpY_holder (fun r' => r' = r ∧ i_Rel (k + 4) u v) v' v1) u' v1) ?_ I
  intro A N H S C dn nm B V Q L D p g yn yh ys yc ya hn hw hB1 hB2 hV hC hL hp hg hR
  by_cases c : ke_y v1
  · obtain ⟨i, hi, rfl⟩ := c
    exact xp_holder hC hi (yo_holder hR hi ⟨rfl, same⟩)
  · exact xp_holder0 c (yo_holder0 c ⟨rfl, same⟩)
theorem i_vc_keys {k : Nat} {u : SX} {v : SY} (I : i_Rel k u v) (hk : k + 4 ≤ 2048) (v1 : Int32) : wpX_keys (fun r => wpY_keys (fun r' => r' = r ∧ i_Rel (k + 4) u v) v v1) u v1 := by
  have same := i_up I
  refine re_el (P := fun u' v' => wpX_keys (fun r => wpY_keys (fun r' => r' = r ∧ i_Rel (k + 4) u v) v' v1) u' v1) ?_ I
  intro A N H S C dn nm B V Q L D p g yn yh ys yc ya hn hw hB1 hB2 hV hC hL hp hg hR
  by_cases c : op_n A v1
  · obtain ⟨t, ht, rfl, hA⟩ := c
    exact xp_keys hC ht hA (fun y hy => yo_keys hR ht hA (fun y' hy' => ⟨b_ext (fun i hi => (hy' i hi).trans (hy i hi).symm), same⟩))
  · exact xp_keys0 hC c (yo_keys0 hR c ⟨rfl, same⟩)
theorem i_vc_written {k : Nat} {u : SX} {v : SY} (I : i_Rel k u v) (hk : k + 4 ≤ 2048) (v1 : Int32) : wpX_written (fun r => wpY_written (fun r' => r' = r ∧ i_Rel (k + 4) u v) v v1) u v1 := by
  have same := i_up I
  refine re_el (P := fun u' v' => wpX_written (fun r => wpY_written (fun r' => r' = r ∧ i_Rel (k + 4) u v) v' v1) u' v1) ?_ I
  intro A N H S C dn nm B V Q L D p g yn yh ys yc ya hn hw hB1 hB2 hV hC hL hp hg hR
  by_cases c : op_n A v1
  · obtain ⟨t, ht, rfl, hA⟩ := c
    exact xp_written hC ht hA (fun y hy => yo_written hR ht hA (fun y' hy' => ⟨b_ext (fun i hi => (hy' i hi).trans (hy i hi).symm), same⟩))
  · exact xp_written0 hC c (yo_written0 hR c ⟨rfl, same⟩)
theorem i_vc_sum {k : Nat} {u : SX} {v : SY} (I : i_Rel k u v) (hk : k + 4 ≤ 2048) (v1 : Int32) : wpX_sum (fun r => wpY_sum (fun r' => r' = r ∧ i_Rel (k + 4) u v) v v1) u v1 := by
  have same := i_up I
  refine re_el (P := fun u' v' => wpX_sum (fun r => wpY_sum (fun r' => r' = r ∧ i_Rel (k + 4) u v) v' v1) u' v1) ?_ I
  intro A N H S C dn nm B V Q L D p g yn yh ys yc ya hn hw hB1 hB2 hV hC hL hp hg hR
  by_cases c : ∃ m, m < 3 ∧ v1 = nI m
  · obtain ⟨m, hm, rfl⟩ := c
    exact xp_sum hC hm (yo_sum hR hm ⟨sm_e N hm, same⟩)
  · exact xp_sum0 c (yo_sum0 c ⟨rfl, same⟩)
theorem i_vc_total {k : Nat} {u : SX} {v : SY} (I : i_Rel k u v) (hk : k + 4 ≤ 2048) : wpX_total (fun r => wpY_total (fun r' => r' = r ∧ i_Rel (k + 4) u v) v) u := by
  have same := i_up I
  refine re_el (P := fun u' v' => wpX_total (fun r => wpY_total (fun r' => r' = r ∧ i_Rel (k + 4) u v) v') u') ?_ I
  intro A N H S C dn nm B V Q L D p g yn yh ys yc ya hn hw hB1 hB2 hV hC hL hp hg hR
  exact xp_total hC (yo_total hR ⟨to_eq N, same⟩)
theorem i_vc_commits {k : Nat} {u : SX} {v : SY} (I : i_Rel k u v) (hk : k + 4 ≤ 2048) : wpX_commits (fun r => wpY_commits (fun r' => r' = r ∧ i_Rel (k + 4) u v) v) u := by
  have same := i_up I
  refine re_el (P := fun u' v' => wpX_commits (fun r => wpY_commits (fun r' => r' = r ∧ i_Rel (k + 4) u v) v') u') ?_ I
  intro A N H S C dn nm B V Q L D p g yn yh ys yc ya hn hw hB1 hB2 hV hC hL hp hg hR
  exact ⟨hB2.symm, same⟩
end
