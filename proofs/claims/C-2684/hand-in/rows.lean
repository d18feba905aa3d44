section
/-! pure rows to paste: stores, nI and lN arithmetic, masks, shifts, narrowing, branches by naturals (pk_le, pk_lt, pk_eq), loops (lp1 .. lp16: the measure of the state; rp1 ..: recursion), negatives. Take what you need -/
theorem pk_us {f : Nat → Int32} {k : Nat} {x : Int32} : upd f k x k = x := if_pos rfl
theorem pk_un {f : Nat → Int32} {k j : Nat} {x : Int32} (h : j ≠ k) : upd f k x j = f j := if_neg h
theorem pk_sub {a b : Nat} (h : b ≤ a) : nI a - nI b = nI (a - b) := by
  obtain ⟨c, rfl⟩ : ∃ c, a = c + b := ⟨a - b, by omega⟩
  rw [← nI_add, Int32.add_sub_cancel, Nat.add_sub_cancel]
theorem pk_m1 (n : Nat) : nI (n + 1) + (-1) = nI n := by
  rw [← nI_1, Int32.add_assoc, show (1 : Int32) + (-1) = 0 from rfl, Int32.add_zero]
theorem pk_mul (a b : Nat) : nI a * nI b = nI (a * b) := (Int32.ofNat_mul a b).symm
theorem pk_ix (x : Int32) {n : Nat} (hn : n < 2 ^ 31) : x < 0 ∨ nI n ≤ x ∨ ∃ j : Nat, j < n ∧ x = nI j := by
  by_cases h : x < 0
  · exact Or.inl h
  · obtain ⟨j, hj, rfl⟩ := nI_of h
    by_cases h2 : j < n
    · exact Or.inr (Or.inr ⟨j, h2, rfl⟩)
    · exact Or.inr (Or.inl (nI_le (by omega) hj))
theorem pk_le {x y : Int32} {A B : Prop} (a b : Nat) (f : a ≤ b → A) (g : b < a → B) (hx : x = nI a := by rfl) (hy : y = nI b := by rfl) (ha : a < 2 ^ 31 := by omega) (hb : b < 2 ^ 31 := by omega) : (x ≤ y → A) ∧ (¬ x ≤ y → B) := by
  subst hx hy
  rw [nI_leI ha hb]
  exact ⟨f, fun z => g (by omega)⟩
theorem pk_lt {x y : Int32} {A B : Prop} (a b : Nat) (f : a < b → A) (g : b ≤ a → B) (hx : x = nI a := by rfl) (hy : y = nI b := by rfl) (ha : a < 2 ^ 31 := by omega) (hb : b < 2 ^ 31 := by omega) : (x < y → A) ∧ (¬ x < y → B) := by
  subst hx hy
  rw [nI_ltI ha hb]
  exact ⟨f, fun z => g (by omega)⟩
theorem pk_eq {x y : Int32} {A B : Prop} (a b : Nat) (f : a = b → A) (g : a ≠ b → B) (hx : x = nI a := by rfl) (hy : y = nI b := by rfl) (ha : a < 2 ^ 31 := by omega) (hb : b < 2 ^ 31 := by omega) : (x = y → A) ∧ (¬ x = y → B) := by
  subst hx hy
  rw [nI_eq ha hb]
  exact ⟨f, g⟩
theorem pk_in {x : Int32} (n N : Nat) (h : n < N) (hx : x = nI n := by rfl) (hN : N < 2 ^ 31 := by omega) : vp_in x N := by
  subst hx
  exact vp_in_nI h hN
theorem pk_cl {x : Int32} (n : Nat) (hx : x = nI n := by rfl) (h : n < 2 ^ 31 := by omega) : x.toNatClampNeg = n := by
  subst hx
  exact nI_clamp h
theorem pk_tn {n : Nat} (h : n < 2 ^ 32) : (nI n).toBitVec.toNat = n := Nat.mod_eq_of_lt h
theorem pk_and (x : Int32) {m : Int32} (k : Nat) (hm : m.toBitVec.toNat = 2 ^ k - 1) : x &&& m = nI (x.toBitVec.toNat % 2 ^ k) := by
  apply Int32.toBitVec_inj.mp
  apply BitVec.eq_of_toNat_eq
  rw [Int32.toBitVec_and, BitVec.toNat_and, hm, Nat.and_two_pow_sub_one_eq_mod]
  show _ = (BitVec.ofNat 32 _).toNat
  rw [BitVec.toNat_ofNat]
  exact (Nat.mod_eq_of_lt (Nat.lt_of_le_of_lt (Nat.mod_le _ _) x.toBitVec.isLt)).symm
theorem pk_andN {n : Nat} (h : n < 2 ^ 32) {m : Int32} (k : Nat) (hm : m.toBitVec.toNat = 2 ^ k - 1) : nI n &&& m = nI (n % 2 ^ k) := by
  rw [pk_and _ k hm, pk_tn h]
theorem pk_andE (x : Int32) {m : Int32} (k : Nat) (hm : m.toBitVec.toNat = 2 ^ k - 1) : ∃ j : Nat, j < 2 ^ k ∧ x &&& m = nI j := ⟨_, Nat.mod_lt _ (Nat.two_pow_pos k), pk_and x k hm⟩
theorem pk_andIn (x : Int32) {m : Int32} (k : Nat) (hm : m.toBitVec.toNat = 2 ^ k - 1) (hk : k ≤ 30) : vp_in (x &&& m) (2 ^ k) := by
  obtain ⟨j, hj, e⟩ := pk_andE x k hm
  rw [e]
  exact vp_in_nI hj (Nat.lt_of_le_of_lt (Nat.pow_le_pow_right (by decide) hk) (by decide))
theorem pk_vb (z : Int32) : vp_nar .byte z.toInt8.toInt32 = z.toInt8.toInt32 := by rw [vp_nar_byte]; simp
theorem pk_least (P : Nat → Prop) (h : ∃ k, P k) : ∃ k, P k ∧ ∀ j, j < k → ¬ P j := by
  obtain ⟨k, hk⟩ := h
  induction k using Nat.strongRecOn with
  | ind k ih =>
    by_cases e : ∃ j, j < k ∧ P j
    · obtain ⟨j, hj, pj⟩ := e
      exact ih j hj pj
    · exact ⟨k, hk, fun j hj pj => e ⟨j, hj, pj⟩⟩
/-! ===== Int32 by its bits: bt x i ===== -/
def bt (x : Int32) (i : Nat) : Bool := x.toBitVec.getLsbD i
theorem b_ext {x y : Int32} (h : ∀ i, i < 32 → bt x i = bt y i) : x = y := Int32.toBitVec_inj.mp (BitVec.eq_of_getLsbD_eq (fun i hi => h i hi))
theorem b_or (x y : Int32) (i : Nat) : bt (x ||| y) i = (bt x i || bt y i) := by unfold bt; rw [Int32.toBitVec_or, BitVec.getLsbD_or]
theorem b_and (x y : Int32) (i : Nat) : bt (x &&& y) i = (bt x i && bt y i) := by unfold bt; rw [Int32.toBitVec_and, BitVec.getLsbD_and]
theorem b_xor (x y : Int32) (i : Nat) : bt (x ^^^ y) i = (bt x i ^^ bt y i) := by unfold bt; rw [Int32.toBitVec_xor, BitVec.getLsbD_xor]
theorem b_big {x : Int32} {i : Nat} (h : 32 ≤ i) : bt x i = false := BitVec.getLsbD_of_ge _ _ h
theorem b_m1 : ∀ i, i < 32 → bt (-1) i = true := by decide +kernel
theorem b_0 (i : Nat) : bt 0 i = false := BitVec.getLsbD_zero
theorem s_l : ∀ n, n < 32 → ((nI n &&& 31).toBitVec.smod 32).toNat = n := by decide +kernel
theorem s_u : ∀ n, n < 32 → (((nI n).toUInt32 &&& Int32.toUInt32 31).toBitVec % 32).toNat = n := by decide +kernel
theorem b_shl (n : Nat) (hn : n < 32) (x : Int32) {i : Nat} (hi : i < 32) : bt (x <<< (nI n &&& 31)) i = (decide (n ≤ i) && bt x (i - n)) := by
  unfold bt
  rw [Int32.toBitVec_shiftLeft]
  show (x.toBitVec <<< ((nI n &&& 31).toBitVec.smod 32).toNat).getLsbD i = _
  rw [s_l n hn, BitVec.getLsbD_shiftLeft]
  rcases Nat.lt_or_ge i n with h | h
  · simp [h, Nat.not_le.mpr h]
  · simp [hi, h, Nat.not_lt.mpr h]
theorem b_sshr (n : Nat) (hn : n < 32) (x : Int32) {i : Nat} (hi : i < 32) : bt (x >>> (nI n &&& 31)) i = if n + i < 32 then bt x (n + i) else bt x 31 := by
  unfold bt
  rw [Int32.toBitVec_shiftRight]
  show (x.toBitVec.sshiftRight ((nI n &&& 31).toBitVec.smod 32).toNat).getLsbD i = _
  rw [s_l n hn, BitVec.getLsbD_sshiftRight, BitVec.msb_eq_getLsbD_last]
  simp [hi]
/-! ===== own rows: one bit of a small set in an int ===== -/
theorem pf_b1 : ∀ i, i < 32 → bt 1 i = decide (i = 0) := by decide +kernel
theorem pf_tst (w : Int32) {c : Nat} (hc : c < 32) : ((w >>> (nI c &&& 31)) &&& 1) = 0 ↔ bt w c = false := by
  have e0 : bt ((w >>> (nI c &&& 31)) &&& 1) 0 = bt w c := by
    rw [b_and, b_sshr c hc w (by omega : 0 < 32), pf_b1 0 (by omega), if_pos (by omega)]
    simp
  constructor
  · intro h
    rw [h, b_0] at e0
    exact e0.symm
  · intro h
    apply b_ext
    intro i hi
    rw [b_0]
    rcases Nat.eq_zero_or_pos i with z | z
    · rw [z, e0, h]
    · rw [b_and, pf_b1 i hi, decide_eq_false (by omega), Bool.and_false]
theorem pf_or (w : Int32) {c i : Nat} (hc : c < 32) (hi : i < 32) : bt (w ||| ((1 : Int32) <<< (nI c &&& 31))) i = (bt w i || decide (i = c)) := by
  rw [b_or, b_shl c hc 1 hi, pf_b1 (i - c) (by omega)]
  congr 1
  rw [← Bool.decide_and]
  exact decide_eq_decide.mpr ⟨fun h => by omega, fun h => by omega⟩
theorem pf_cl {n : Nat} (h : n < 100000) : (nI n).toNatClampNeg = n := nI_clamp (by omega)
theorem pf_7 (x : Int32) : (x &&& 7).toNatClampNeg < 8 ∧ x &&& 7 = nI (x &&& 7).toNatClampNeg := by
  obtain ⟨j, hj, e⟩ := pk_andE x (m := 7) 3 (by decide)
  rw [e, pf_cl (by omega)]
  exact ⟨hj, rfl⟩
end
section
/-! ===== the pure machine: depth, soundness, one step, the potential ===== -/
def pm_up (f : Nat → Nat) (k v : Nat) : Nat → Nat := fun j => if j = k then v else f j
theorem pm_us {f : Nat → Nat} {k v : Nat} : pm_up f k v k = v := if_pos rfl
theorem pm_un {f : Nat → Nat} {k v j : Nat} (h : j ≠ k) : pm_up f k v j = f j := if_neg h
/-- the depth of loops ahead of instruction i -/
def pm_D (o : Nat → Nat) : Nat → Nat
  | 0 => 0
  | i + 1 => if o i = 9 then pm_D o i + 1 else if o i = 10 then pm_D o i - 1 else pm_D o i
theorem pm_D9 {o : Nat → Nat} {i : Nat} (h : o i = 9) : pm_D o (i + 1) = pm_D o i + 1 := by
  rw [pm_D, if_pos h]
theorem pm_D10 {o : Nat → Nat} {i : Nat} (h : o i = 10) : pm_D o (i + 1) = pm_D o i - 1 := by
  rw [pm_D, if_neg (by omega), if_pos h]
theorem pm_Dn {o : Nat → Nat} {i : Nat} (h : o i < 9) : pm_D o (i + 1) = pm_D o i := by
  rw [pm_D, if_neg (by omega), if_neg (by omega)]
theorem pm_Dc {o : Nat → Nat} {a : Nat} : ∀ d : Nat, (∀ j, a ≤ j → j < a + d → o j < 9) → ∀ j, a ≤ j → j ≤ a + d → pm_D o j = pm_D o a := by
  intro d
  induction d with
  | zero =>
    intro _ j h1 h2
    have : j = a := by omega
    rw [this]
  | succ d ih =>
    intro h j h1 h2
    by_cases e : j ≤ a + d
    · exact ih (fun i i1 i2 => h i i1 (by omega)) j h1 e
    · have e2 : j = (a + d) + 1 := by omega
      rw [e2, pm_Dn (h (a + d) (by omega) (by omega))]
      exact ih (fun i i1 i2 => h i i1 (by omega)) (a + d) (by omega) (by omega)
/-- what sound() checks -/
def pm_Sd (n : Nat) (o y : Nat → Nat) : Prop :=
  pm_D o n = 0 ∧ ∀ i, i < n → pm_D o (i + 1) ≤ 2 ∧ (o i = 10 → 0 < pm_D o i) ∧ (o i = 8 → i + y i < n ∧ ∀ k, i < k → k ≤ i + y i → o k < 9)
theorem pm_D2 {n : Nat} {o y : Nat → Nat} (h : pm_Sd n o y) : ∀ i, i ≤ n → pm_D o i ≤ 2 := by
  intro i hi
  cases i with
  | zero => exact Nat.zero_le 2
  | succ i => exact (h.2 i (by omega)).1
/-! == the potential: what may still be done at level d from p on, up to the end of level d == -/
def pm_R (D : Nat → Nat) (d : Nat) : Nat → Nat → Nat
  | 0, _ => 0
  | f + 1, p => if D p < d then 0 else 6 ^ (D p - d) + pm_R D d f (p + 1)
/-- what is left of level d behind the end of level d + 1 -/
def pm_Q (D : Nat → Nat) (d : Nat) : Nat → Nat → Nat
  | 0, _ => 0
  | f + 1, p => if D p < d + 1 then pm_R D d (f + 1) p else pm_Q D d f (p + 1)
theorem pm_RQ0 (D : Nat → Nat) (d : Nat) : ∀ f p : Nat, pm_R D d f p = 6 * pm_R D (d + 1) f p + pm_Q D d f p := by
  intro f
  induction f with
  | zero => intro p; rfl
  | succ f ih =>
    intro p
    by_cases h : D p < d + 1
    · have e1 : pm_R D (d + 1) (f + 1) p = 0 := by rw [pm_R, if_pos h]
      have e2 : pm_Q D d (f + 1) p = pm_R D d (f + 1) p := by rw [pm_Q, if_pos h]
      rw [e1, e2]
      omega
    · have e1 : pm_R D (d + 1) (f + 1) p = 6 ^ (D p - (d + 1)) + pm_R D (d + 1) f (p + 1) := by rw [pm_R, if_neg h]
      have e2 : pm_Q D d (f + 1) p = pm_Q D d f (p + 1) := by rw [pm_Q, if_neg h]
      have e3 : pm_R D d (f + 1) p = 6 ^ (D p - d) + pm_R D d f (p + 1) := by rw [pm_R, if_neg (by omega)]
      have e4 : D p - d = (D p - (d + 1)) + 1 := by omega
      rw [e1, e2, e3, ih (p + 1), e4, Nat.pow_succ]
      omega
def pm_RR (n : Nat) (D : Nat → Nat) (d p : Nat) : Nat := pm_R D d (n - p) p
def pm_QQ (n : Nat) (D : Nat → Nat) (d p : Nat) : Nat := pm_Q D d (n - p) p
theorem pm_RQ (n : Nat) (D : Nat → Nat) (d p : Nat) : pm_RR n D d p = 6 * pm_RR n D (d + 1) p + pm_QQ n D d p := pm_RQ0 D d (n - p) p
theorem pm_R1 {n : Nat} {D : Nat → Nat} {d p : Nat} (hp : p < n) (h : D p = d) : pm_RR n D d p = 1 + pm_RR n D d (p + 1) := by
  have e : n - p = (n - (p + 1)) + 1 := by omega
  unfold pm_RR
  rw [e, pm_R, if_neg (by omega), h, Nat.sub_self, Nat.pow_zero]
theorem pm_R0 {n : Nat} {D : Nat → Nat} {d p : Nat} (h : D p < d) : pm_RR n D d p = 0 := by
  unfold pm_RR
  cases n - p with
  | zero => rfl
  | succ f => rw [pm_R, if_pos h]
theorem pm_Q1 {n : Nat} {D : Nat → Nat} {d p : Nat} (hp : p < n) (h : d + 1 ≤ D p) : pm_QQ n D d p = pm_QQ n D d (p + 1) := by
  have e : n - p = (n - (p + 1)) + 1 := by omega
  unfold pm_QQ
  rw [e, pm_Q, if_neg (by omega)]
theorem pm_Q0 {n : Nat} {D : Nat → Nat} {d p : Nat} (h : D p < d + 1) : pm_QQ n D d p = pm_RR n D d p := by
  unfold pm_QQ pm_RR
  cases n - p with
  | zero => rfl
  | succ f => rw [pm_Q, if_pos h]
theorem pm_Qc {n : Nat} {D : Nat → Nat} {d a : Nat} : ∀ c : Nat, a + c ≤ n → (∀ i, a ≤ i → i < a + c → d + 1 ≤ D i) → pm_QQ n D d a = pm_QQ n D d (a + c) := by
  intro c
  induction c with
  | zero => intro _ _; rfl
  | succ c ih =>
    intro hn h
    rw [ih (by omega) (fun i i1 i2 => h i i1 (by omega)), pm_Q1 (by omega) (h (a + c) (by omega) (by omega))]
    rfl
theorem pm_Rc {n : Nat} {D : Nat → Nat} {d a : Nat} : ∀ c : Nat, a + c ≤ n → (∀ i, a ≤ i → i < a + c → D i = d) → pm_RR n D d a = c + pm_RR n D d (a + c) := by
  intro c
  induction c with
  | zero => intro _ _; rw [Nat.zero_add]; rfl
  | succ c ih =>
    intro hn h
    rw [ih (by omega) (fun i i1 i2 => h i i1 (by omega)), pm_R1 (by omega) (h (a + c) (by omega) (by omega))]
    rw [show a + (c + 1) = a + c + 1 from rfl]
    omega
theorem pm_Rb {n : Nat} {D : Nat → Nat} (h : ∀ i, i < n → D i ≤ 2) : ∀ f p : Nat, p + f ≤ n → pm_R D 0 f p ≤ 36 * f := by
  intro f
  induction f with
  | zero => intro p _; exact Nat.le_refl 0
  | succ f ih =>
    intro p hp
    rw [pm_R, if_neg (by omega)]
    have h1 := ih (p + 1) (by omega)
    have h2 : 6 ^ (D p - 0) ≤ 6 ^ 2 := Nat.pow_le_pow_right (by decide) (h p (by omega))
    omega
def pm_T (n : Nat) (D S L : Nat → Nat) (p : Nat) : Nat → Nat
  | 0 => 0
  | k + 1 => pm_T n D S L p k + ((L k - 1) * pm_RR n D (k + 1) (S k + 1) + pm_QQ n D k p)
theorem pm_Te {n : Nat} {D S L S' L' : Nat → Nat} {p p' : Nat} : ∀ O : Nat, (∀ k, k < O → S' k = S k ∧ L' k = L k ∧ pm_QQ n D k p' = pm_QQ n D k p) → pm_T n D S' L' p' O = pm_T n D S L p O := by
  intro O
  induction O with
  | zero => intro _; rfl
  | succ O ih =>
    intro h
    obtain ⟨h1, h2, h3⟩ := h O (by omega)
    rw [pm_T, pm_T, ih (fun k hk => h k (by omega)), h1, h2, h3]
def pm_Ph (n : Nat) (D : Nat → Nat) (p O : Nat) (S L : Nat → Nat) : Nat := pm_RR n D O p + pm_T n D S L p O
/-- the invariant of the loops at place p -/
def pm_Iv (n : Nat) (o : Nat → Nat) (p O : Nat) (S L : Nat → Nat) (F : Nat → Int32) : Prop :=
  p ≤ n ∧ O = pm_D o p ∧ ∀ k, k < O → S k < p ∧ o (S k) = 9 ∧ pm_D o (S k) = k ∧ (∀ i, S k < i → i ≤ p → k + 1 ≤ pm_D o i) ∧ 1 ≤ L k ∧ L k ≤ 6 ∧ F (S k) = nI (L k)
/-- on without a loop's head or end -/
theorem pm_mv {n : Nat} {o : Nat → Nat} {p O : Nat} {S L : Nat → Nat} {F : Nat → Int32} (I : pm_Iv n o p O S L F) (c : Nat) (hc : 0 < c) (hn : p + c ≤ n) (h : ∀ j, p ≤ j → j < p + c → o j < 9) :
    pm_Iv n o (p + c) O S L F ∧ pm_Ph n (pm_D o) (p + c) O S L < pm_Ph n (pm_D o) p O S L := by
  obtain ⟨_, hO, hk⟩ := I
  have hD : ∀ j, p ≤ j → j ≤ p + c → pm_D o j = O := fun j j1 j2 => (pm_Dc c h j j1 j2).trans hO.symm
  refine ⟨⟨hn, (hD (p + c) (by omega) (by omega)).symm, fun k k1 => ?_⟩, ?_⟩
  · obtain ⟨a1, a2, a3, a4, a5⟩ := hk k k1
    refine ⟨by omega, a2, a3, fun i i1 i2 => ?_, a5⟩
    by_cases e : i ≤ p
    · exact a4 i i1 e
    · rw [hD i (by omega) i2]; omega
  · unfold pm_Ph
    rw [pm_Te (S := S) (L := L) (p := p) O (fun k k1 => ⟨rfl, rfl, (pm_Qc c hn (fun i i1 i2 => by rw [hD i i1 (by omega)]; omega)).symm⟩)]
    rw [pm_Rc (a := p) c hn (fun i i1 i2 => hD i i1 (by omega))]
    omega
/-- a loop's head -/
theorem pm_lp {n : Nat} {o : Nat → Nat} {p O w : Nat} {S L : Nat → Nat} {F : Nat → Int32} (I : pm_Iv n o p O S L F) (hn : p < n) (h : o p = 9) (h1 : 1 ≤ w) (h6 : w ≤ 6) :
    pm_Iv n o (p + 1) (O + 1) (pm_up S O p) (pm_up L O w) (upd F p (nI w)) ∧ pm_Ph n (pm_D o) (p + 1) (O + 1) (pm_up S O p) (pm_up L O w) < pm_Ph n (pm_D o) p O S L := by
  obtain ⟨_, hO, hk⟩ := I
  have hD : pm_D o (p + 1) = O + 1 := by rw [pm_D9 h, hO]
  refine ⟨⟨hn, hD.symm, fun k k1 => ?_⟩, ?_⟩
  · by_cases e : k = O
    · subst e
      rw [pm_us, pm_us, pk_us]
      refine ⟨by omega, h, hO.symm, fun i i1 i2 => ?_, h1, h6, rfl⟩
      have : i = p + 1 := by omega
      rw [this, hD]
      omega
    · obtain ⟨a1, a2, a3, a4, a5, a6, a7⟩ := hk k (by omega)
      rw [pm_un e, pm_un e, pk_un (by omega)]
      refine ⟨by omega, a2, a3, fun i i1 i2 => ?_, a5, a6, a7⟩
      by_cases e2 : i ≤ p
      · exact a4 i i1 e2
      · have : i = p + 1 := by omega
        rw [this, hD]
        omega
  · unfold pm_Ph
    rw [pm_T, pm_us, pm_us]
    rw [pm_Te (S := S) (L := L) (p := p) O (fun k k1 => ⟨pm_un (by omega), pm_un (by omega), (pm_Q1 hn (by rw [← hO]; omega)).symm⟩)]
    rw [pm_R1 hn hO.symm, pm_RQ n (pm_D o) O (p + 1)]
    obtain ⟨v, rfl⟩ : ∃ v, w = v + 1 := ⟨w - 1, by omega⟩
    have hm : v * pm_RR n (pm_D o) (O + 1) (p + 1) ≤ 5 * pm_RR n (pm_D o) (O + 1) (p + 1) := Nat.mul_le_mul_right _ (by omega)
    rw [Nat.add_sub_cancel]
    omega
/-- a loop's end, the last time -/
theorem pm_ex {n : Nat} {o : Nat → Nat} {p O : Nat} {S L : Nat → Nat} {F : Nat → Int32} (f' : Int32) (l' : Nat) (I : pm_Iv n o p (O + 1) S L F) (hn : p < n) (h : o p = 10) :
    pm_Iv n o (p + 1) O S (pm_up L O l') (upd F (S O) f') ∧ pm_Ph n (pm_D o) (p + 1) O S (pm_up L O l') < pm_Ph n (pm_D o) p (O + 1) S L := by
  obtain ⟨_, hO, hk⟩ := I
  have hD : pm_D o (p + 1) = O := by rw [pm_D10 h, ← hO]; rfl
  refine ⟨⟨hn, hD.symm, fun k k1 => ?_⟩, ?_⟩
  · obtain ⟨a1, a2, a3, a4, a5, a6, a7⟩ := hk k (by omega)
    have b3 := (hk O (by omega)).2.2.1
    rw [pm_un (by omega), pk_un (fun e => by rw [e, b3] at a3; omega)]
    refine ⟨by omega, a2, a3, fun i i1 i2 => ?_, a5, a6, a7⟩
    by_cases e2 : i ≤ p
    · exact a4 i i1 e2
    · have : i = p + 1 := by omega
      rw [this, hD]
      omega
  · unfold pm_Ph
    rw [pm_T]
    rw [pm_Te (S := S) (L := L) (p := p) O (fun k k1 => ⟨rfl, pm_un (by omega), (pm_Q1 hn (by rw [← hO]; omega)).symm⟩)]
    rw [pm_Q1 (d := O) hn (by rw [← hO]; omega), pm_Q0 (d := O) (p := p + 1) (by omega), pm_R1 hn hO.symm]
    omega
/-- a loop's end, and again -/
theorem pm_bk {n : Nat} {o : Nat → Nat} {p O : Nat} {S L : Nat → Nat} {F : Nat → Int32} (I : pm_Iv n o p (O + 1) S L F) (hn : p < n) (h : o p = 10) (hl : 1 < L O) :
    pm_Iv n o (S O + 1) (O + 1) S (pm_up L O (L O - 1)) (upd F (S O) (nI (L O - 1))) ∧ pm_Ph n (pm_D o) (S O + 1) (O + 1) S (pm_up L O (L O - 1)) < pm_Ph n (pm_D o) p (O + 1) S L := by
  obtain ⟨_, hO, hk⟩ := I
  obtain ⟨b1, b2, b3, b4, b5, b6, b7⟩ := hk O (by omega)
  have hD : pm_D o (p + 1) = O := by rw [pm_D10 h, ← hO]; rfl
  refine ⟨⟨by omega, by rw [pm_D9 b2, b3], fun k k1 => ?_⟩, ?_⟩
  · by_cases e : k = O
    · subst e
      rw [pm_us, pk_us]
      exact ⟨by omega, b2, b3, fun i i1 i2 => b4 i i1 (by omega), by omega, by omega, rfl⟩
    · obtain ⟨a1, a2, a3, a4, a5, a6, a7⟩ := hk k k1
      have ne : S k ≠ S O := fun e2 => by rw [e2, b3] at a3; omega
      have lt : S k < S O := by
        rcases Nat.lt_or_ge (S k) (S O) with z | z
        · exact z
        · have := b4 (S k) (by omega) (by omega)
          omega
      rw [pm_un e, pk_un ne]
      exact ⟨by omega, a2, a3, fun i i1 i2 => a4 i i1 (by omega), a5, a6, a7⟩
  · unfold pm_Ph
    have hq : ∀ k, k < O + 1 → pm_QQ n (pm_D o) k (S O + 1) = pm_QQ n (pm_D o) k p := by
      intro k hk
      obtain ⟨c, rfl⟩ : ∃ c, p = (S O + 1) + c := ⟨p - (S O + 1), by omega⟩
      exact pm_Qc c (by omega) (fun i i1 i2 => by have := b4 i (by omega) (by omega); omega)
    rw [pm_T, pm_T, pm_us, hq O (by omega)]
    rw [pm_Te (S := S) (L := L) (p := p) O (fun k k1 => ⟨rfl, pm_un (by omega), hq k (by omega)⟩)]
    rw [pm_R1 (p := p) hn hO.symm]
    obtain ⟨v, hv⟩ : ∃ v, L O = v + 2 := ⟨L O - 2, by omega⟩
    rw [hv, show v + 2 - 1 - 1 = v from rfl, show v + 2 - 1 = v + 1 from rfl, Nat.add_mul]
    omega
end
section
/-! ===== one step of the pure machine, its trace, stretches ===== -/
/-- place, depth of loops, their starts, what is left of them, registers, cells, the reference's 'left' -/
abbrev PM : Type := Nat × Nat × (Nat → Nat) × (Nat → Nat) × (Nat → Int32) × (Nat → Int32) × (Nat → Int32)
abbrev pm_p (m : PM) : Nat := m.1
abbrev pm_o (m : PM) : Nat := m.2.1
abbrev pm_s (m : PM) : Nat → Nat := m.2.2.1
abbrev pm_l (m : PM) : Nat → Nat := m.2.2.2.1
abbrev pm_r (m : PM) : Nat → Int32 := m.2.2.2.2.1
abbrev pm_c (m : PM) : Nat → Int32 := m.2.2.2.2.2.1
abbrev pm_f (m : PM) : Nat → Int32 := m.2.2.2.2.2.2
/-- the cell that the instruction at p means -/
def pm_cl (o y : Nat → Nat) (R : Nat → Int32) (p : Nat) : Nat := if o p ≤ 5 then y p else (R (y p) &&& 7).toNatClampNeg
def pm_st (o x y z : Nat → Nat) (fy : Nat → Int32) (m : PM) : PM :=
  match m with
  | (p, O, S, L, R, C, F) =>
    if o p = 0 then (p + 1, O, S, L, upd R (x p) (fy p), C, F)
    else if o p = 1 then (p + 1, O, S, L, upd R (x p) (R (y p) + R (z p)), C, F)
    else if o p = 2 then (p + 1, O, S, L, upd R (x p) (R (y p) - R (z p)), C, F)
    else if o p = 3 then (p + 1, O, S, L, upd R (x p) (R (y p) * R (z p)), C, F)
    else if o p = 4 ∨ o p = 6 then (p + 1, O, S, L, upd R (x p) (C (pm_cl o y R p)), C, F)
    else if o p = 5 ∨ o p = 7 then (p + 1, O, S, L, R, upd C (pm_cl o y R p) (R (x p)), F)
    else if o p = 8 then (if 0 < R (x p) then (p + 1, O, S, L, R, C, F) else (p + y p + 1, O, S, L, R, C, F))
    else if o p = 9 then (p + 1, O + 1, pm_up S O p, pm_up L O (x p), R, C, upd F p (nI (x p)))
    else if L (O - 1) ≤ 1 then (p + 1, O - 1, S, pm_up L (O - 1) (L (O - 1) - 1), R, C, upd F (S (O - 1)) (nI (L (O - 1) - 1)))
    else (S (O - 1) + 1, O, S, pm_up L (O - 1) (L (O - 1) - 1), R, C, upd F (S (O - 1)) (nI (L (O - 1) - 1)))
section
variable {o x y z : Nat → Nat} {fy : Nat → Int32} {p O : Nat} {S L : Nat → Nat} {R C F : Nat → Int32}
theorem pm_st0 (h : o p = 0) : pm_st o x y z fy (p, O, S, L, R, C, F) = (p + 1, O, S, L, upd R (x p) (fy p), C, F) := by
  simp [pm_st, h]
theorem pm_st1 (h : o p = 1) : pm_st o x y z fy (p, O, S, L, R, C, F) = (p + 1, O, S, L, upd R (x p) (R (y p) + R (z p)), C, F) := by
  simp [pm_st, h]
theorem pm_st2 (h : o p = 2) : pm_st o x y z fy (p, O, S, L, R, C, F) = (p + 1, O, S, L, upd R (x p) (R (y p) - R (z p)), C, F) := by
  simp [pm_st, h]
theorem pm_st3 (h : o p = 3) : pm_st o x y z fy (p, O, S, L, R, C, F) = (p + 1, O, S, L, upd R (x p) (R (y p) * R (z p)), C, F) := by
  simp [pm_st, h]
theorem pm_st46 (h : o p = 4 ∨ o p = 6) : pm_st o x y z fy (p, O, S, L, R, C, F) = (p + 1, O, S, L, upd R (x p) (C (pm_cl o y R p)), C, F) := by
  rcases h with h | h <;> simp [pm_st, h]
theorem pm_st57 (h : o p = 5 ∨ o p = 7) : pm_st o x y z fy (p, O, S, L, R, C, F) = (p + 1, O, S, L, R, upd C (pm_cl o y R p) (R (x p)), F) := by
  rcases h with h | h <;> simp [pm_st, h]
theorem pm_st8p (h : o p = 8) (h0 : 0 < R (x p)) : pm_st o x y z fy (p, O, S, L, R, C, F) = (p + 1, O, S, L, R, C, F) := by
  simp only [pm_st, h]
  rw [if_pos h0]
  rfl
theorem pm_st8n (h : o p = 8) (h0 : ¬ 0 < R (x p)) : pm_st o x y z fy (p, O, S, L, R, C, F) = (p + y p + 1, O, S, L, R, C, F) := by
  simp only [pm_st, h]
  rw [if_neg h0]
  rfl
theorem pm_st9 (h : o p = 9) : pm_st o x y z fy (p, O, S, L, R, C, F) = (p + 1, O + 1, pm_up S O p, pm_up L O (x p), R, C, upd F p (nI (x p))) := by
  simp [pm_st, h]
theorem pm_st10x (h : o p = 10) (hl : L O ≤ 1) : pm_st o x y z fy (p, O + 1, S, L, R, C, F) = (p + 1, O, S, pm_up L O (L O - 1), R, C, upd F (S O) (nI (L O - 1))) := by
  simp [pm_st, h, hl]
theorem pm_st10b (h : o p = 10) (hl : ¬ L O ≤ 1) : pm_st o x y z fy (p, O + 1, S, L, R, C, F) = (S O + 1, O + 1, S, pm_up L O (L O - 1), R, C, upd F (S O) (nI (L O - 1))) := by
  simp [pm_st, h, hl]
end
def pm_Inv (n : Nat) (o : Nat → Nat) (m : PM) : Prop := pm_Iv n o (pm_p m) (pm_o m) (pm_s m) (pm_l m) (pm_f m)
def pm_Phi (n : Nat) (o : Nat → Nat) (m : PM) : Nat := pm_Ph n (pm_D o) (pm_p m) (pm_o m) (pm_s m) (pm_l m)
theorem pm_keep {n : Nat} {o x y z : Nat → Nat} {fy : Nat → Int32} (hS : pm_Sd n o y) (hx : ∀ i, i < n → o i = 9 → 1 ≤ x i ∧ x i ≤ 6) (h10 : ∀ i, i < n → o i ≤ 10) (m : PM) (I : pm_Inv n o m) (hp : pm_p m < n) :
    pm_Inv n o (pm_st o x y z fy m) ∧ pm_Phi n o (pm_st o x y z fy m) < pm_Phi n o m := by
  obtain ⟨p, O, S, L, R, C, F⟩ := m
  have hp' : p < n := hp
  have I' : pm_Iv n o p O S L F := I
  have one : o p < 9 → pm_Iv n o (p + 1) O S L F ∧ pm_Ph n (pm_D o) (p + 1) O S L < pm_Ph n (pm_D o) p O S L := fun h =>
    pm_mv I' 1 (by omega) (by omega) (fun j j1 j2 => by have : j = p := by omega
                                                        rw [this]; exact h)
  have hc : o p = 0 ∨ o p = 1 ∨ o p = 2 ∨ o p = 3 ∨ (o p = 4 ∨ o p = 6) ∨ (o p = 5 ∨ o p = 7) ∨ o p = 8 ∨ o p = 9 ∨ o p = 10 := by
    have := h10 p hp'
    omega
  rcases hc with h | h | h | h | h | h | h | h | h
  · rw [pm_st0 h]; exact one (by omega)
  · rw [pm_st1 h]; exact one (by omega)
  · rw [pm_st2 h]; exact one (by omega)
  · rw [pm_st3 h]; exact one (by omega)
  · rw [pm_st46 h]; exact one (by omega)
  · rw [pm_st57 h]; exact one (by omega)
  · by_cases h0 : 0 < R (x p)
    · rw [pm_st8p h h0]; exact one (by omega)
    · rw [pm_st8n h h0]
      obtain ⟨y1, y2⟩ := (hS.2 p hp').2.2 h
      refine pm_mv I' (y p + 1) (by omega) (by omega) (fun j j1 j2 => ?_)
      by_cases e : j = p
      · rw [e, h]; omega
      · exact y2 j (by omega) (by omega)
  · rw [pm_st9 h]
    exact pm_lp I' hp' h (hx p hp' h).1 (hx p hp' h).2
  · have h0 : 0 < O := by rw [I'.2.1]; exact (hS.2 p hp').2.1 h
    obtain ⟨d, rfl⟩ : ∃ d, O = d + 1 := ⟨O - 1, by omega⟩
    by_cases hl : L d ≤ 1
    · rw [pm_st10x h hl]
      exact pm_ex (nI (L d - 1)) (L d - 1) I' hp' h
    · rw [pm_st10b h hl]
      exact pm_bk I' hp' h (by omega)
/-- the trace comes to its end, after at most 1080 steps -/
theorem pm_end {n : Nat} {o x y z : Nat → Nat} {fy : Nat → Int32} (hn : n ≤ 30) (hS : pm_Sd n o y) (hx : ∀ i, i < n → o i = 9 → 1 ≤ x i ∧ x i ≤ 6) (h10 : ∀ i, i < n → o i ≤ 10)
    (tr : Nat → PM) (ht : ∀ k, tr (k + 1) = pm_st o x y z fy (tr k)) (h0 : pm_p (tr 0) = 0) (hO : pm_o (tr 0) = 0) :
    ∃ N, N ≤ 1080 ∧ pm_p (tr N) = n ∧ (∀ k, k < N → pm_p (tr k) < n) ∧ ∀ k, k ≤ N → pm_Inv n o (tr k) := by
  have I0 : pm_Inv n o (tr 0) := by
    unfold pm_Inv
    rw [h0, hO]
    exact ⟨by omega, rfl, fun k hk => absurd hk (by omega)⟩
  have hall : ∀ k, (∀ i, i < k → pm_p (tr i) < n) → pm_Inv n o (tr k) ∧ pm_Phi n o (tr k) + k ≤ pm_Phi n o (tr 0) := by
    intro k
    induction k with
    | zero => intro _; exact ⟨I0, Nat.le_refl _⟩
    | succ k ih =>
      intro h
      obtain ⟨a, b⟩ := ih (fun i hi => h i (by omega))
      obtain ⟨c, d⟩ := pm_keep hS hx h10 (tr k) a (h k (by omega)) (z := z) (fy := fy)
      rw [ht k]
      exact ⟨c, by omega⟩
  have hb : pm_Phi n o (tr 0) ≤ 1080 := by
    unfold pm_Phi
    rw [h0, hO]
    have h1 := pm_Rb (D := pm_D o) (n := n) (fun i hi => pm_D2 hS i (by omega)) (n - 0) 0 (by omega)
    have h2 : pm_Ph n (pm_D o) 0 0 (pm_s (tr 0)) (pm_l (tr 0)) = pm_R (pm_D o) 0 (n - 0) 0 := rfl
    rw [h2]
    omega
  obtain ⟨N, hN, hlt⟩ := pk_least (fun k => ¬ pm_p (tr k) < n) (by
    apply Classical.byContradiction
    intro hne
    have hal : ∀ k, pm_p (tr k) < n := fun k => Classical.byContradiction (fun z => hne ⟨k, z⟩)
    have := (hall 1081 (fun i _ => hal i)).2
    omega)
  have hlt' : ∀ k, k < N → pm_p (tr k) < n := fun k hk => Classical.byContradiction (fun z => hlt k hk z)
  have hI : ∀ k, k ≤ N → pm_Inv n o (tr k) := fun k hk => (hall k (fun i hi => hlt' i (by omega))).1
  refine ⟨N, ?_, ?_, hlt', hI⟩
  · have := (hall N hlt').2
    omega
  · have a := (hI N (Nat.le_refl N)).1
    have b : ¬ pm_p (tr N) < n := hN
    omega
/-! == what a step reads and writes; stretches == -/
def pm_rds (o y : Nat → Nat) (m : PM) (c : Nat) : Prop := (o (pm_p m) = 4 ∨ o (pm_p m) = 6) ∧ c = pm_cl o y (pm_r m) (pm_p m)
def pm_wrs (o y : Nat → Nat) (m : PM) (c : Nat) : Prop := (o (pm_p m) = 5 ∨ o (pm_p m) = 7) ∧ c = pm_cl o y (pm_r m) (pm_p m)
/-- written in the steps j .. k - 1 -/
def pm_WR (o y : Nat → Nat) (tr : Nat → PM) (j k c : Nat) : Prop := ∃ i, j ≤ i ∧ i < k ∧ pm_wrs o y (tr i) c
/-- read there, and not written ahead of it -/
def pm_RD (o y : Nat → Nat) (tr : Nat → PM) (j k c : Nat) : Prop := ∃ i, j ≤ i ∧ i < k ∧ pm_rds o y (tr i) c ∧ ¬ pm_WR o y tr j i c
def pm_hz (o y : Nat → Nat) (tr : Nat → PM) (j k : Nat) : Prop := ∃ c, pm_wrs o y (tr k) c ∧ pm_RD o y tr j k c
/-- the stretch from the save at j ends at e -/
def pm_E (o y : Nat → Nat) (tr : Nat → PM) (N j e : Nat) : Prop :=
  j ≤ e ∧ e ≤ N ∧ e ≤ j + 10 ∧ (∀ k, j ≤ k → k < e → ¬ pm_hz o y tr j k) ∧ (e = j + 10 ∨ e = N ∨ pm_hz o y tr j e)
def pm_Ck (o y : Nat → Nat) (tr : Nat → PM) (j k e : Nat) (C : Nat → Int32) : Prop := ∀ c, (pm_WR o y tr j k c ∨ ¬ pm_WR o y tr j e c) → C c = pm_c (tr k) c
section
variable {o x y z : Nat → Nat} {fy : Nat → Int32} {tr : Nat → PM} {N j k e : Nat} {C : Nat → Int32}
theorem pm_E1 (h : j ≤ N) : ∃ e, pm_E o y tr N j e := by
  obtain ⟨e, he, hl⟩ := pk_least (fun e => j ≤ e ∧ (e = j + 10 ∨ e = N ∨ pm_hz o y tr j e)) ⟨N, h, Or.inr (Or.inl rfl)⟩
  refine ⟨e, he.1, ?_, ?_, fun k k1 k2 z => hl k k2 ⟨k1, Or.inr (Or.inr z)⟩, he.2⟩
  · exact Nat.le_of_not_lt (fun z => hl N z ⟨h, Or.inr (Or.inl rfl)⟩)
  · exact Nat.le_of_not_lt (fun z => hl (j + 10) z ⟨by omega, Or.inl rfl⟩)
theorem pm_RDj {c : Nat} : ¬ pm_RD o y tr j j c := by
  rintro ⟨i, i1, i2, _⟩
  omega
theorem pm_WRj {c : Nat} : ¬ pm_WR o y tr j j c := by
  rintro ⟨i, i1, i2, _⟩
  omega
theorem pm_Ej (h : pm_E o y tr N j e) (hj : j < N) : j < e := by
  rcases h.2.2.2.2 with a | a | a
  · omega
  · omega
  · rcases Nat.lt_or_ge j e with b | b
    · exact b
    · have : e = j := by have := h.1; omega
      rw [this] at a
      obtain ⟨c, _, hc⟩ := a
      exact absurd hc pm_RDj
theorem pm_WRs {c : Nat} (hj : j ≤ k) : pm_WR o y tr j (k + 1) c ↔ pm_WR o y tr j k c ∨ pm_wrs o y (tr k) c := by
  constructor
  · rintro ⟨i, i1, i2, i3⟩
    by_cases q : i = k
    · rw [q] at i3; exact Or.inr i3
    · exact Or.inl ⟨i, i1, by omega, i3⟩
  · rintro (⟨i, i1, i2, i3⟩ | h)
    · exact ⟨i, i1, by omega, i3⟩
    · exact ⟨k, hj, by omega, h⟩
theorem pm_RDs {c : Nat} (hj : j ≤ k) : pm_RD o y tr j (k + 1) c ↔ pm_RD o y tr j k c ∨ (pm_rds o y (tr k) c ∧ ¬ pm_WR o y tr j k c) := by
  constructor
  · rintro ⟨i, i1, i2, i3⟩
    by_cases q : i = k
    · rw [q] at i3; exact Or.inr i3
    · exact Or.inl ⟨i, i1, by omega, i3⟩
  · rintro (⟨i, i1, i2, i3⟩ | h)
    · exact ⟨i, i1, by omega, i3⟩
    · exact ⟨k, hj, by omega, h⟩
theorem pm_WRm {c k' : Nat} (h : k ≤ k') : pm_WR o y tr j k c → pm_WR o y tr j k' c := by
  rintro ⟨i, i1, i2, i3⟩
  exact ⟨i, i1, by omega, i3⟩
/-- a cell that a step of the stretch reads unwritten is not written in the stretch at all -/
theorem pm_rw {c : Nat} (hE : pm_E o y tr N j e) (h1 : j ≤ k) (h2 : k < e) (hr : pm_rds o y (tr k) c) (hw : ¬ pm_WR o y tr j k c) : ¬ pm_WR o y tr j e c := by
  have key : ∀ d, k + 1 + d ≤ e → ¬ pm_WR o y tr j (k + 1 + d) c := by
    intro d
    induction d with
    | zero =>
      intro _ h
      rcases (pm_WRs h1).mp h with a | a
      · exact hw a
      · have q1 := hr.1
        have q2 := a.1
        omega
    | succ d ih =>
      intro hd h
      rcases (pm_WRs (k := k + 1 + d) (by omega)).mp h with a | a
      · exact ih (by omega) a
      · exact hE.2.2.2.1 (k + 1 + d) (by omega) (by omega) ⟨c, a, k, h1, by omega, hr, hw⟩
  obtain ⟨d, rfl⟩ : ∃ d, e = k + 1 + d := ⟨e - (k + 1), by omega⟩
  exact key d (Nat.le_refl _)
theorem pm_Crd {c : Nat} (hE : pm_E o y tr N j e) (h1 : j ≤ k) (h2 : k < e) (hr : pm_rds o y (tr k) c) (hC : pm_Ck o y tr j k e C) : C c = pm_c (tr k) c := by
  by_cases hw : pm_WR o y tr j k c
  · exact hC c (Or.inl hw)
  · exact hC c (Or.inr (pm_rw hE h1 h2 hr hw))
/-- cells of the trace -/
theorem pm_cn (ht : tr (k + 1) = pm_st o x y z fy (tr k)) (h : ¬ (o (pm_p (tr k)) = 5 ∨ o (pm_p (tr k)) = 7)) : pm_c (tr (k + 1)) = pm_c (tr k) := by
  rw [ht]
  revert h
  generalize tr k = m
  obtain ⟨p, O, S, L, R, C, F⟩ := m
  intro h
  have h' : ¬ (o p = 5 ∨ o p = 7) := h
  unfold pm_st
  dsimp only
  repeat' split
  all_goals first | rfl | exact absurd ‹o p = 5 ∨ o p = 7› h'
theorem pm_cw (ht : tr (k + 1) = pm_st o x y z fy (tr k)) (h : o (pm_p (tr k)) = 5 ∨ o (pm_p (tr k)) = 7) : pm_c (tr (k + 1)) = upd (pm_c (tr k)) (pm_cl o y (pm_r (tr k)) (pm_p (tr k))) (pm_r (tr k) (x (pm_p (tr k)))) := by
  rw [ht]
  revert h
  generalize tr k = m
  obtain ⟨p, O, S, L, R, C, F⟩ := m
  intro h
  rw [pm_st57 h]
theorem pm_Cn (ht : tr (k + 1) = pm_st o x y z fy (tr k)) (h : ¬ (o (pm_p (tr k)) = 5 ∨ o (pm_p (tr k)) = 7)) (h1 : j ≤ k) (hC : pm_Ck o y tr j k e C) : pm_Ck o y tr j (k + 1) e C := by
  intro c hc
  rw [pm_cn ht h]
  apply hC c
  rcases hc with a | a
  · rcases (pm_WRs h1).mp a with b | b
    · exact Or.inl b
    · exact absurd b.1 h
  · exact Or.inr a
theorem pm_Cw (ht : tr (k + 1) = pm_st o x y z fy (tr k)) (h : o (pm_p (tr k)) = 5 ∨ o (pm_p (tr k)) = 7) (h1 : j ≤ k) (hC : pm_Ck o y tr j k e C) :
    pm_Ck o y tr j (k + 1) e (upd C (pm_cl o y (pm_r (tr k)) (pm_p (tr k))) (pm_r (tr k) (x (pm_p (tr k))))) := by
  intro c hc
  rw [pm_cw ht h]
  by_cases q : c = pm_cl o y (pm_r (tr k)) (pm_p (tr k))
  · rw [q, pk_us, pk_us]
  · rw [pk_un q, pk_un q]
    apply hC c
    rcases hc with a | a
    · rcases (pm_WRs h1).mp a with b | b
      · exact Or.inl b
      · exact absurd b.2 q
    · exact Or.inr a
theorem pm_Ce (hC : pm_Ck o y tr j e e C) : C = pm_c (tr e) := funext (fun c => hC c (Classical.em _))
theorem pm_C0 : pm_Ck o y tr j j e (pm_c (tr j)) := fun _ _ => rfl
/-- cells that were not written are as they were -/
theorem pm_cj (ht : ∀ k, tr (k + 1) = pm_st o x y z fy (tr k)) {c : Nat} : ∀ d, ¬ pm_WR o y tr j (j + d) c → pm_c (tr (j + d)) c = pm_c (tr j) c := by
  intro d
  induction d with
  | zero => intro _; rfl
  | succ d ih =>
    intro h
    have h' : ¬ pm_WR o y tr j (j + d) c := fun q => h (pm_WRm (by omega) q)
    rw [← ih h']
    by_cases w : o (pm_p (tr (j + d))) = 5 ∨ o (pm_p (tr (j + d))) = 7
    · rw [show j + (d + 1) = (j + d) + 1 from rfl, pm_cw (ht _) w]
      exact pk_un (fun q => h ((pm_WRs (k := j + d) (by omega)).mpr (Or.inr ⟨w, q⟩)))
    · rw [show j + (d + 1) = (j + d) + 1 from rfl, pm_cn (ht _) w]
theorem pm_Cc (ht : ∀ k, tr (k + 1) = pm_st o x y z fy (tr k)) (h1 : j ≤ k) (h2 : k ≤ e) (hC : pm_Ck o y tr j k e C) : pm_Ck o y tr j j e C := by
  intro c hc
  rcases hc with a | a
  · exact absurd a pm_WRj
  · rw [hC c (Or.inr a)]
    obtain ⟨d, rfl⟩ : ∃ d, k = j + d := ⟨k - j, by omega⟩
    exact pm_cj ht d (fun q => a (pm_WRm h2 q))
end
end
section
/-! ===== the component's ticks, saves and wakings ===== -/
/-- word w of a save of m after k instructions -/
def px_w (m : PM) (k w : Nat) : Int32 :=
  if w < 4 then pm_r m w else if w = 4 then nI (pm_p m) else if w = 5 then nI k else if w = 6 then nI (pm_o m) else if w < 9 then nI (pm_s m (w - 7)) else nI (pm_l m (w - 9))
theorem px_w0 {m : PM} {k w : Nat} (h : w < 4) : px_w m k w = pm_r m w := if_pos h
theorem px_w4 {m : PM} {k : Nat} : px_w m k 4 = nI (pm_p m) := rfl
theorem px_w5 {m : PM} {k : Nat} : px_w m k 5 = nI k := rfl
theorem px_w6 {m : PM} {k : Nat} : px_w m k 6 = nI (pm_o m) := rfl
theorem px_w7 {m : PM} {k w : Nat} (h : w < 2) : px_w m k (7 + w) = nI (pm_s m w) := by
  have : w = 0 ∨ w = 1 := by omega
  rcases this with rfl | rfl <;> rfl
theorem px_w9 {m : PM} {k w : Nat} (h : w < 2) : px_w m k (9 + w) = nI (pm_l m w) := by
  have : w = 0 ∨ w = 1 := by omega
  rcases this with rfl | rfl <;> rfl
/-- what does not last, as m has it -/
def px_V (m : PM) (rg ls ll : Nat → Int32) : Prop := (∀ r, r < 4 → rg r = pm_r m r) ∧ (∀ i, i < 2 → ls i = nI (pm_s m i)) ∧ (∀ i, i < 2 → ll i = nI (pm_l m i))
/-- the area v is valid, with the number q -/
def px_va (sv : Nat → Int32) (v q : Nat) : Prop :=
  q < 1000000 ∧ ((v = 0 ∧ sv 11 = nI q ∧ ∃ q', q' < q ∧ sv 23 = nI q') ∨ (v = 12 ∧ sv 23 = nI q ∧ ∃ q', q' < q ∧ sv 11 = nI q'))
/-- the valid area holds m after k instructions -/
def px_Sv (m : PM) (k q : Nat) (sv : Nat → Int32) : Prop := ∃ v, px_va sv v q ∧ ∀ w, w < 11 → sv (v + w) = px_w m k w
/-- post holds of every state that the power's failure may leave -/
def px_Cr (post : SX → Prop) (ln : Int32) (oc fx fy fz ce sv fr : Nat → Int32) : Prop :=
  ∀ (pl ct ol rd wr sr tk : Int32) (rg ls ll : Nat → Int32), post (ln, pl, ct, ol, rd, wr, sr, tk, 1, oc, fx, fy, fz, ce, sv, fr, rg, ls, ll)
section
variable {ln pl ct ol rd wr sr tk fl : Int32} {oc fx fy fz ce sv fr rg ls ll : Nat → Int32}
theorem px_lose7 {post : SX → Prop} (h : px_Cr post ln oc fx fy fz ce sv fr) : ∀ (n i : Nat) (rg : Nat → Int32), i ≤ 4 → 4 - i < n → wX_loseAll_7 post ln pl ct ol rd wr sr tk 1 n (nI i) oc fx fy fz ce sv fr rg ls ll := by
  intro n
  induction n with
  | zero => intro i rg _ h2; omega
  | succ n ih =>
    intro i rg h1 h2
    refine pk_le 4 i (fun _ => h _ _ _ _ _ _ _ _ _ _) (fun hi => ?_)
    exact ⟨vp_in_nI hi (by omega), nm_e (nm_r (nI_1 i) (ih (i + 1) _ (by omega) (by omega)))⟩
theorem px_lose {post : SX → Prop} (h : px_Cr post ln oc fx fy fz ce sv fr) : wpX_loseAll post (ln, pl, ct, ol, rd, wr, sr, tk, fl, oc, fx, fy, fz, ce, sv, fr, rg, ls, ll) :=
  ⟨5, px_lose7 h 5 0 rg (by omega) (by omega)⟩
theorem px_tick {post : Int32 → SX → Prop} (t : Nat) (ht : t < 1000) (hc : t = 0 → px_Cr (post 0) ln oc fx fy fz ce sv fr) (hs : 0 < t → post 1 (ln, pl, ct, ol, rd, wr, sr, nI (t - 1), fl, oc, fx, fy, fz, ce, sv, fr, rg, ls, ll)) : wpX_tick post (ln, pl, ct, ol, rd, wr, sr, nI t, fl, oc, fx, fy, fz, ce, sv, fr, rg, ls, ll) := by
  refine pk_eq t 0 (fun e => ?_) (fun e => ?_)
  · exact px_lose (hc e)
  · obtain ⟨s, rfl⟩ : ∃ s, t = s + 1 := ⟨t - 1, by omega⟩
    exact nm_r (nI_pred s) (hs (by omega))
theorem px_valid {post : Int32 → Prop} {v q : Nat} (h : px_va sv v q) (hp : post (nI v)) : wpX_validArea post (ln, pl, ct, ol, rd, wr, sr, tk, fl, oc, fx, fy, fz, ce, sv, fr, rg, ls, ll) := by
  obtain ⟨hq, ⟨rfl, e1, q', h', e2⟩ | ⟨rfl, e1, q', h', e2⟩⟩ := h
  · exact br_f (by rw [e1, e2]; exact nI_ge h' (by omega)) hp
  · exact br_t (by rw [e1, e2]; exact nI_le (by omega) (by omega)) hp
theorem px_word {post : Int32 → Prop} {m : PM} {k i : Nat} (hV : px_V m rg ls ll) (hi : i < 11) (h : post (px_w m k i)) : wpX_wordToSave post (ln, nI (pm_p m), nI k, nI (pm_o m), rd, wr, sr, tk, fl, oc, fx, fy, fz, ce, sv, fr, rg, ls, ll) (nI i) := by
  refine pk_le 4 i (fun h4 => ?_) (fun h4 => ?_)
  · refine pk_eq i 4 (fun e => ?_) (fun n4 => ?_)
    · subst e; exact h
    · refine pk_eq i 5 (fun e => ?_) (fun n5 => ?_)
      · subst e; exact h
      · refine pk_eq i 6 (fun e => ?_) (fun n6 => ?_)
        · subst e; exact h
        · refine pk_le 9 i (fun h9 => ?_) (fun h9 => ?_)
          · have e : nI i - 9 = nI (i - 9) := pk_sub (b := 9) h9
            rw [e, pf_cl (by omega), hV.2.2 (i - 9) (by omega), ← px_w9 (k := k) (by omega), show 9 + (i - 9) = i from by omega]
            exact ⟨vp_in_nI (by omega) (by omega), h⟩
          · have e : nI i - 7 = nI (i - 7) := pk_sub (b := 7) (by omega)
            rw [e, pf_cl (by omega), hV.2.1 (i - 7) (by omega), ← px_w7 (k := k) (by omega), show 7 + (i - 7) = i from by omega]
            exact ⟨vp_in_nI (by omega) (by omega), h⟩
  · rw [pf_cl (by omega), hV.1 i h4, ← px_w0 (k := k) h4]
    exact ⟨vp_in_nI h4 (by omega), h⟩
theorem px_sv12 {post : SX → Prop} {m : PM} {k v a t0 : Nat} {sv0 : Nat → Int32} (hV : px_V m rg ls ll) (hva : (v = 0 ∧ a = 12) ∨ (v = 12 ∧ a = 0)) (ht0 : t0 < 1000)
    (hc : t0 < 12 → ∀ sv : Nat → Int32, (∀ w, w < 12 → sv (v + w) = sv0 (v + w)) → sv (a + 11) = sv0 (a + 11) → px_Cr post ln oc fx fy fz ce sv fr)
    (hs : 12 ≤ t0 → ∀ sv : Nat → Int32, (∀ w, w < 11 → sv (a + w) = px_w m k w) → sv (a + 11) = sv0 (v + 11) + 1 → sv (v + 11) = sv0 (v + 11) → post (ln, nI (pm_p m), nI k, nI (pm_o m), 0, 0, 0, nI (t0 - 12), fl, oc, fx, fy, fz, ce, sv, fr, rg, ls, ll)) :
    ∀ (n i t : Nat) (sv : Nat → Int32), i ≤ 11 → 11 - i < n → t + i = t0 → (∀ w, w < i → sv (a + w) = px_w m k w) → (∀ w, w < 12 → sv (v + w) = sv0 (v + w)) → sv (a + 11) = sv0 (a + 11) →
      wX_save_12 post (nI v) (nI a) n (nI i) ln (nI (pm_p m)) (nI k) (nI (pm_o m)) rd wr sr (nI t) fl oc fx fy fz ce sv fr rg ls ll := by
  intro n
  induction n with
  | zero => intro i t sv _ h2; omega
  | succ n ih =>
    intro i t sv h1 h2 ht hw hv ha
    refine pk_le 11 i (fun hi => ?_) (fun hi => ?_)
    · have e11 : i = 11 := by omega
      subst e11
      refine px_tick t (by omega) (fun z => ?_) (fun z => ?_)
      · intro pl ct ol rd wr sr tk rg ls ll
        exact br_t rfl (hc (by omega) sv hv ha _ _ _ _ _ _ _ _ _ _)
      · have ev : nI v + 11 = nI (v + 11) := nI_add v 11
        have ea : nI a + 11 = nI (a + 11) := nI_add a 11
        refine br_f (by decide) ⟨by rw [ev]; exact vp_in_nI (by omega) (by omega), by rw [ea]; exact vp_in_nI (by omega) (by omega), nm_r (e' := upd sv (a + 11) (sv (v + 11) + 1)) (by rw [ev, ea, pf_cl (by omega), pf_cl (by omega)]) ?_⟩
        have K := hs (by omega) (upd sv (a + 11) (sv (v + 11) + 1)) (fun w hw' => by rw [pk_un (by omega)]; exact hw w hw') (by rw [pk_us, hv 11 (by omega)]) (by rw [pk_un (by omega)]; exact hv 11 (by omega))
        rw [show t0 - 12 = t - 1 from by omega] at K
        exact K
    · refine px_tick t (by omega) (fun z => ?_) (fun z => ?_)
      · intro pl ct ol rd wr sr tk rg ls ll
        exact br_t rfl (hc (by omega) sv hv ha _ _ _ _ _ _ _ _ _ _)
      · refine br_f (by decide) (px_word hV (by omega) ?_)
        have ea : nI a + nI i = nI (a + i) := nI_add a i
        refine ⟨by rw [ea]; exact vp_in_nI (by omega) (by omega), nm_r (e' := upd sv (a + i) (px_w m k i)) (by rw [ea, pf_cl (by omega)]) (nm_r (nI_1 i) ?_)⟩
        refine ih (i + 1) (t - 1) _ (by omega) (by omega) (by omega) (fun w hw' => ?_) (fun w hw' => ?_) ?_
        · by_cases e : w = i
          · rw [e, pk_us]
          · rw [pk_un (by omega)]; exact hw w (by omega)
        · rw [pk_un (by omega)]; exact hv w hw'
        · rw [pk_un (by omega)]; exact ha
theorem px_save {post : SX → Prop} {m mj : PM} {k j q t : Nat} (hV : px_V m rg ls ll) (hS : px_Sv mj j q sv) (hq : q + 1 < 1000000) (ht : t < 1000)
    (hc : t < 12 → ∀ sv : Nat → Int32, px_Sv mj j q sv → px_Cr post ln oc fx fy fz ce sv fr)
    (hs : 12 ≤ t → ∀ sv : Nat → Int32, px_Sv m k (q + 1) sv → post (ln, nI (pm_p m), nI k, nI (pm_o m), 0, 0, 0, nI (t - 12), fl, oc, fx, fy, fz, ce, sv, fr, rg, ls, ll)) :
    wpX_save post (ln, nI (pm_p m), nI k, nI (pm_o m), rd, wr, sr, nI t, fl, oc, fx, fy, fz, ce, sv, fr, rg, ls, ll) := by
  obtain ⟨v, hva, hw⟩ := hS
  unfold wpX_save
  refine px_valid hva ?_
  obtain ⟨a, hav⟩ : ∃ a, (v = 0 ∧ a = 12) ∨ (v = 12 ∧ a = 0) := by
    obtain ⟨_, ⟨rfl, _⟩ | ⟨rfl, _⟩⟩ := hva
    · exact ⟨12, Or.inl ⟨rfl, rfl⟩⟩
    · exact ⟨0, Or.inr ⟨rfl, rfl⟩⟩
  refine nm_r (e' := nI a) (by rcases hav with ⟨rfl, rfl⟩ | ⟨rfl, rfl⟩ <;> rfl) ⟨12, ?_⟩
  refine px_sv12 (sv0 := sv) hV hav ht (fun h12 sv' h1 h2 => hc h12 sv' ⟨v, ?_, fun w hw' => ?_⟩) (fun h12 sv' h1 h2 h3 => hs h12 sv' ⟨a, ?_, h1⟩) 12 0 t sv (by omega) (by omega) rfl (fun w hw' => absurd hw' (by omega)) (fun _ _ => rfl) rfl
  · rcases hav with ⟨rfl, rfl⟩ | ⟨rfl, rfl⟩
    · have b1 : sv' 11 = sv 11 := h1 11 (by omega)
      have b2 : sv' 23 = sv 23 := h2
      unfold px_va
      rw [b1, b2]
      exact hva
    · have b1 : sv' 23 = sv 23 := h1 11 (by omega)
      have b2 : sv' 11 = sv 11 := h2
      unfold px_va
      rw [b1, b2]
      exact hva
  · rw [h1 w (by omega)]
    exact hw w hw'
  · refine ⟨hq, ?_⟩
    rcases hav with ⟨rfl, rfl⟩ | ⟨rfl, rfl⟩
    · obtain ⟨_, ⟨_, e1, _⟩ | ⟨z, _⟩⟩ := hva
      · have b1 : sv' 23 = sv 11 + 1 := h2
        have b2 : sv' 11 = sv 11 := h3
        exact Or.inr ⟨rfl, by rw [b1, e1, nI_1], q, by omega, by rw [b2, e1]⟩
      · omega
    · obtain ⟨_, ⟨z, _⟩ | ⟨_, e1, _⟩⟩ := hva
      · omega
      · have b1 : sv' 11 = sv 23 + 1 := h2
        have b2 : sv' 23 = sv 23 := h3
        exact Or.inl ⟨rfl, by rw [b1, e1, nI_1], q, by omega, by rw [b2, e1]⟩
theorem px_wk90 {post : SX → Prop} {v : Nat} (hv : v ≤ 12) (h : ∀ ls ll : Nat → Int32, (∀ i, i < 2 → ls i = sv (v + 7 + i)) → (∀ i, i < 2 → ll i = sv (v + 9 + i)) → post (ln, pl, ct, ol, 0, 0, 0, tk, fl, oc, fx, fy, fz, ce, sv, fr, rg, ls, ll)) :
    ∀ (n i : Nat) (ls ll : Nat → Int32), i ≤ 2 → 2 - i < n → (∀ w, w < i → ls w = sv (v + 7 + w)) → (∀ w, w < i → ll w = sv (v + 9 + w)) → wX_wakeUp_90 post (nI v) ln pl ct ol rd wr sr tk fl n (nI i) oc fx fy fz ce sv fr rg ls ll := by
  intro n
  induction n with
  | zero => intro i ls ll _ h2; omega
  | succ n ih =>
    intro i ls ll h1 h2 hS hL
    refine pk_le 2 i (fun hi => ?_) (fun hi => ?_)
    · exact h ls ll (fun w hw => hS w (by omega)) (fun w hw => hL w (by omega))
    · have e7 : nI v + 7 + nI i = nI (v + 7 + i) := by rw [show nI v + 7 = nI (v + 7) from nI_add v 7, nI_add]
      have e9 : nI v + 9 + nI i = nI (v + 9 + i) := by rw [show nI v + 9 = nI (v + 9) from nI_add v 9, nI_add]
      refine ⟨by rw [e7]; exact vp_in_nI (by omega) (by omega), vp_in_nI hi (by omega), nm_r (e' := upd ls i (sv (v + 7 + i))) (by rw [e7, pf_cl (by omega), pf_cl (by omega)]) ⟨by rw [e9]; exact vp_in_nI (by omega) (by omega), vp_in_nI hi (by omega), nm_r (e' := upd ll i (sv (v + 9 + i))) (by rw [e9, pf_cl (by omega), pf_cl (by omega)]) (nm_r (nI_1 i) ?_)⟩⟩
      refine ih (i + 1) _ _ (by omega) (by omega) (fun w hw => ?_) (fun w hw => ?_)
      · by_cases e : w = i
        · rw [e, pk_us]
        · rw [pk_un e]; exact hS w (by omega)
      · by_cases e : w = i
        · rw [e, pk_us]
        · rw [pk_un e]; exact hL w (by omega)
theorem px_wk26 {post : SX → Prop} {v : Nat} (hv : v ≤ 12) (h : ∀ rg ls ll : Nat → Int32, (∀ i, i < 4 → rg i = sv (v + i)) → (∀ i, i < 2 → ls i = sv (v + 7 + i)) → (∀ i, i < 2 → ll i = sv (v + 9 + i)) → post (ln, sv (v + 4), sv (v + 5), sv (v + 6), 0, 0, 0, tk, fl, oc, fx, fy, fz, ce, sv, fr, rg, ls, ll)) :
    ∀ (n i : Nat) (rg : Nat → Int32), i ≤ 4 → 4 - i < n → (∀ w, w < i → rg w = sv (v + w)) → wX_wakeUp_26 post (nI v) ln pl ct ol rd wr sr tk fl n (nI i) oc fx fy fz ce sv fr rg ls ll := by
  intro n
  induction n with
  | zero => intro i rg _ h2; omega
  | succ n ih =>
    intro i rg h1 h2 hR
    refine pk_le 4 i (fun hi => ?_) (fun hi => ?_)
    · have e4 : nI v + 4 = nI (v + 4) := nI_add v 4
      have e5 : nI v + 5 = nI (v + 5) := nI_add v 5
      have e6 : nI v + 6 = nI (v + 6) := nI_add v 6
      refine ⟨by rw [e4]; exact vp_in_nI (by omega) (by omega), nm_r (e' := sv (v + 4)) (by rw [e4, pf_cl (by omega)]) ⟨by rw [e5]; exact vp_in_nI (by omega) (by omega), nm_r (e' := sv (v + 5)) (by rw [e5, pf_cl (by omega)]) ⟨by rw [e6]; exact vp_in_nI (by omega) (by omega), nm_r (e' := sv (v + 6)) (by rw [e6, pf_cl (by omega)]) ⟨3, ?_⟩⟩⟩⟩
      exact px_wk90 hv (fun ls ll hS hL => h rg ls ll (fun w hw => hR w (by omega)) hS hL) 3 0 ls ll (by omega) (by omega) (fun w hw => absurd hw (by omega)) (fun w hw => absurd hw (by omega))
    · have e : nI v + nI i = nI (v + i) := nI_add v i
      refine ⟨by rw [e]; exact vp_in_nI (by omega) (by omega), vp_in_nI hi (by omega), nm_r (e' := upd rg i (sv (v + i))) (by rw [e, pf_cl (by omega), pf_cl (by omega)]) (nm_r (nI_1 i) ?_)⟩
      refine ih (i + 1) _ (by omega) (by omega) (fun w hw => ?_)
      by_cases e2 : w = i
      · rw [e2, pk_us]
      · rw [pk_un e2]; exact hR w (by omega)
theorem px_wk7 {post : SX → Prop} {v T : Nat} (hT : T < 900) (h : ∃ n26, wX_wakeUp_26 post (nI v) ln pl ct ol rd wr sr (nI T) fl n26 0 oc fx fy fz ce sv fr rg ls ll) :
    ∀ (n i t : Nat), i ≤ 12 → 12 - i < n → t + i = T + 12 → wX_wakeUp_7 post (nI v) n (nI i) ln pl ct ol rd wr sr (nI t) fl oc fx fy fz ce sv fr rg ls ll := by
  intro n
  induction n with
  | zero => intro i t _ h2; omega
  | succ n ih =>
    intro i t h1 h2 ht
    refine pk_le 12 i (fun hi => ?_) (fun hi => ?_)
    · have : t = T := by omega
      rw [this]
      exact h
    · refine px_tick t (by omega) (fun z => absurd z (by omega)) (fun z => ?_)
      exact nm_r (nI_1 i) (ih (i + 1) (t - 1) (by omega) (by omega) (by omega))
theorem px_wake {post : SX → Prop} {m : PM} {j q T : Nat} (hS : px_Sv m j q sv) (hT : T < 900)
    (h : ∀ rg ls ll : Nat → Int32, px_V m rg ls ll → post (ln, nI (pm_p m), nI j, nI (pm_o m), 0, 0, 0, nI T, fl, oc, fx, fy, fz, ce, sv, fr, rg, ls, ll)) :
    wpX_wakeUp post (ln, pl, ct, ol, rd, wr, sr, nI (T + 12), fl, oc, fx, fy, fz, ce, sv, fr, rg, ls, ll) := by
  obtain ⟨v, hva, hw⟩ := hS
  have hv : v ≤ 12 := by
    obtain ⟨_, ⟨rfl, _⟩ | ⟨rfl, _⟩⟩ := hva <;> omega
  unfold wpX_wakeUp
  refine px_valid hva ?_
  refine ⟨13, px_wk7 (T := T) (by omega) ⟨5, px_wk26 hv (fun rg ls ll hR hS hL => ?_) 5 0 rg (by omega) (by omega) (fun w hw => absurd hw (by omega))⟩ 13 0 (T + 12) (by omega) (by omega) (by omega)⟩
  have K := h rg ls ll ⟨fun r hr => by rw [hR r hr, hw r (by omega), px_w0 hr], fun i hi => by rw [hS i hi, Nat.add_assoc, hw (7 + i) (by omega), px_w7 hi], fun i hi => by rw [hL i hi, Nat.add_assoc, hw (9 + i) (by omega), px_w9 hi]⟩
  rw [hw 4 (by omega), hw 5 (by omega), hw 6 (by omega)]
  exact K
end
end
section
/-! ===== the component's instructions ===== -/
/-- the program: what emit let in -/
def px_PG (n : Nat) (oc fx fy fz : Nat → Int32) (o x y z : Nat → Nat) : Prop := ∀ i, i < n →
  oc i = nI (o i) ∧ o i ≤ 10 ∧ (o i ≤ 9 → fx i = nI (x i)) ∧ (o i ≤ 8 → x i < 4) ∧ (o i = 9 → 1 ≤ x i ∧ x i ≤ 6) ∧ (1 ≤ o i → o i ≤ 8 → fy i = nI (y i)) ∧
  (1 ≤ o i → o i ≤ 3 → y i < 4 ∧ z i < 4 ∧ fz i = nI (z i)) ∧ (4 ≤ o i → o i ≤ 5 → y i < 12) ∧ (6 ≤ o i → o i ≤ 7 → y i < 4) ∧ (o i = 8 → 1 ≤ y i ∧ y i ≤ 6)
section
variable {ln pl ct ol rd wr sr tk fl : Int32} {oc fx fy fz ce sv fr rg ls ll : Nat → Int32} {n : Nat} {o x y z : Nat → Nat}
theorem pm_pn {m : PM} (h : o (pm_p m) < 8) : pm_p (pm_st o x y z fy m) = pm_p m + 1 ∧ pm_o (pm_st o x y z fy m) = pm_o m ∧ pm_s (pm_st o x y z fy m) = pm_s m ∧ pm_l (pm_st o x y z fy m) = pm_l m := by
  obtain ⟨p, O, S, L, R, C, F⟩ := m
  have h' : o p < 8 := h
  have hc : o p = 0 ∨ o p = 1 ∨ o p = 2 ∨ o p = 3 ∨ (o p = 4 ∨ o p = 6) ∨ (o p = 5 ∨ o p = 7) := by omega
  rcases hc with h | h | h | h | h | h
  · rw [pm_st0 h]; exact ⟨rfl, rfl, rfl, rfl⟩
  · rw [pm_st1 h]; exact ⟨rfl, rfl, rfl, rfl⟩
  · rw [pm_st2 h]; exact ⟨rfl, rfl, rfl, rfl⟩
  · rw [pm_st3 h]; exact ⟨rfl, rfl, rfl, rfl⟩
  · rw [pm_st46 h]; exact ⟨rfl, rfl, rfl, rfl⟩
  · rw [pm_st57 h]; exact ⟨rfl, rfl, rfl, rfl⟩
theorem px_Vr {p p' O : Nat} {S L : Nat → Nat} {R C F C' F' : Nat → Int32} {a : Nat} {w : Int32} (hV : px_V (p, O, S, L, R, C, F) rg ls ll) : px_V (p', O, S, L, upd R a w, C', F') (upd rg a w) ls ll := by
  refine ⟨fun r hr => ?_, hV.2.1, hV.2.2⟩
  show upd rg a w r = upd R a w r
  by_cases e : r = a
  · rw [e, pk_us, pk_us]
  · rw [pk_un e, pk_un e]; exact hV.1 r hr
theorem px_comp {post : SX → Prop} {m : PM} (hP : px_PG n oc fx fy fz o x y z) (hn : n ≤ 30) (hp : pm_p m < n) (ho : o (pm_p m) < 4) (hV : px_V m rg ls ll)
    (h : ∀ rg : Nat → Int32, px_V (pm_st o x y z fy m) rg ls ll → post (ln, pl, ct, ol, rd, wr, sr, tk, fl, oc, fx, fy, fz, ce, sv, fr, rg, ls, ll)) : wpX_compute post (ln, pl, ct, ol, rd, wr, sr, tk, fl, oc, fx, fy, fz, ce, sv, fr, rg, ls, ll) (nI (o (pm_p m))) (nI (pm_p m)) := by
  obtain ⟨p, O, S, L, R, C, F⟩ := m
  have hp' : p < n := hp
  have ho' : o p < 4 := ho
  obtain ⟨g1, g2, g3, g4, g5, g6, g7, -⟩ := hP p hp'
  have hx := g4 (by omega)
  have ip : vp_in (nI p) 30 := vp_in_nI (by omega) (by omega)
  have ix : vp_in (nI (x p)) 4 := vp_in_nI hx (by omega)
  have cp : (nI p).toNatClampNeg = p := pf_cl (by omega)
  have cx : (nI (x p)).toNatClampNeg = x p := pf_cl (by omega)
  refine ⟨ip, nm_r (e' := nI (x p)) (by rw [cp, g3 (by omega)]) ?_⟩
  refine pk_eq (o p) 0 (fun e => ?_) (fun e => ?_)
  · refine ⟨ip, ix, nm_r (e' := upd rg (x p) (fy p)) (by rw [cx, cp]) (h _ ?_)⟩
    rw [pm_st0 e]
    exact px_Vr hV
  · obtain ⟨hy, hz, ez⟩ := g7 (by omega) (by omega)
    have ey := g6 (by omega) (by omega)
    have iy : vp_in (nI (y p)) 4 := vp_in_nI hy (by omega)
    have iz : vp_in (nI (z p)) 4 := vp_in_nI hz (by omega)
    have cy : (nI (y p)).toNatClampNeg = y p := pf_cl (by omega)
    have cz : (nI (z p)).toNatClampNeg = z p := pf_cl (by omega)
    refine ⟨ip, by rw [cp, ey]; exact iy, nm_r (e' := R (y p)) (by rw [cp, ey, cy]; exact hV.1 (y p) hy) ⟨ip, by rw [cp, ez]; exact iz, nm_r (e' := R (z p)) (by rw [cp, ez, cz]; exact hV.1 (z p) hz) ?_⟩⟩
    refine pk_eq (o p) 1 (fun e1 => ?_) (fun e1 => ?_)
    · refine ⟨ix, nm_r (e' := upd rg (x p) (R (y p) + R (z p))) (by rw [cx]) (h _ ?_)⟩
      rw [pm_st1 e1]
      exact px_Vr hV
    · refine pk_eq (o p) 2 (fun e2 => ?_) (fun e2 => ?_)
      · refine ⟨ix, nm_r (e' := upd rg (x p) (R (y p) - R (z p))) (by rw [cx]) (h _ ?_)⟩
        rw [pm_st2 e2]
        exact px_Vr hV
      · refine ⟨ix, nm_r (e' := upd rg (x p) (R (y p) * R (z p))) (by rw [cx]) (h _ ?_)⟩
        rw [pm_st3 (by omega)]
        exact px_Vr hV
theorem px_cl12 {m : PM} (hP : px_PG n oc fx fy fz o x y z) (hp : pm_p m < n) (h4 : 4 ≤ o (pm_p m)) (h7 : o (pm_p m) ≤ 7) : pm_cl o y (pm_r m) (pm_p m) < 12 := by
  obtain ⟨g1, g2, g3, g4, g5, g6, g7, g8, g9, -⟩ := hP _ hp
  unfold pm_cl
  by_cases h : o (pm_p m) ≤ 5
  · rw [if_pos h]; exact g8 h4 h
  · rw [if_neg h]
    have := (pf_7 (pm_r m (y (pm_p m)))).1
    omega
theorem px_cell {post : Int32 → Prop} {m : PM} (hP : px_PG n oc fx fy fz o x y z) (hn : n ≤ 30) (hp : pm_p m < n) (h4 : 4 ≤ o (pm_p m)) (h7 : o (pm_p m) ≤ 7) (hV : px_V m rg ls ll)
    (h : post (nI (pm_cl o y (pm_r m) (pm_p m)))) : wpX_cellOf post (ln, pl, ct, ol, rd, wr, sr, tk, fl, oc, fx, fy, fz, ce, sv, fr, rg, ls, ll) (nI (pm_p m)) := by
  obtain ⟨p, O, S, L, R, C, F⟩ := m
  have hp' : p < n := hp
  have h4' : 4 ≤ o p := h4
  have h7' : o p ≤ 7 := h7
  have h' : post (nI (pm_cl o y R p)) := h
  obtain ⟨g1, g2, g3, g4, g5, g6, g7, g8, g9, -⟩ := hP p hp'
  have ip : vp_in (nI p) 30 := vp_in_nI (by omega) (by omega)
  have cp : (nI p).toNatClampNeg = p := pf_cl (by omega)
  have ey := g6 (by omega) (by omega)
  refine ⟨ip, ?_⟩
  show (5 < oc (nI p).toNatClampNeg → _) ∧ (¬ 5 < oc (nI p).toNatClampNeg → _)
  rw [cp, g1, ey]
  refine pk_lt 5 (o p) (fun e => ?_) (fun e => ?_)
  · have hy := g9 (by omega) h7'
    have cy : (nI (y p)).toNatClampNeg = y p := pf_cl (by omega)
    refine ⟨ip, vp_in_nI hy (by omega), ?_⟩
    unfold pm_cl at h'
    rw [if_neg (by omega), ← (pf_7 (R (y p))).2] at h'
    rw [cy, hV.1 (y p) hy]
    exact h'
  · unfold pm_cl at h'
    rw [if_pos (by omega)] at h'
    exact ⟨ip, h'⟩
theorem px_load {post : SX → Prop} {m : PM} (hP : px_PG n oc fx fy fz o x y z) (hn : n ≤ 30) (hp : pm_p m < n) (ho : o (pm_p m) = 4 ∨ o (pm_p m) = 6) (hV : px_V m rg ls ll)
    (hce : ce (pm_cl o y (pm_r m) (pm_p m)) = pm_c m (pm_cl o y (pm_r m) (pm_p m)))
    (h0 : bt wr (pm_cl o y (pm_r m) (pm_p m)) = false → ∀ rg : Nat → Int32, px_V (pm_st o x y z fy m) rg ls ll → post (ln, pl, ct, ol, rd ||| ((1 : Int32) <<< (nI (pm_cl o y (pm_r m) (pm_p m)) &&& 31)), wr, sr, tk, fl, oc, fx, fy, fz, ce, sv, fr, rg, ls, ll))
    (h1 : bt wr (pm_cl o y (pm_r m) (pm_p m)) = true → ∀ rg : Nat → Int32, px_V (pm_st o x y z fy m) rg ls ll → post (ln, pl, ct, ol, rd, wr, sr, tk, fl, oc, fx, fy, fz, ce, sv, fr, rg, ls, ll)) : wpX_moveCell post (ln, pl, ct, ol, rd, wr, sr, tk, fl, oc, fx, fy, fz, ce, sv, fr, rg, ls, ll) (nI (o (pm_p m))) (nI (pm_p m)) := by
  have c12 := px_cl12 hP hp (by omega) (by omega)
  unfold wpX_moveCell
  refine px_cell hP hn hp (by omega) (by omega) hV ?_
  obtain ⟨p, O, S, L, R, C, F⟩ := m
  have hp' : p < n := hp
  have ho' : o p = 4 ∨ o p = 6 := ho
  have hst := pm_st46 (x := x) (y := y) (z := z) (fy := fy) (O := O) (S := S) (L := L) (R := R) (C := C) (F := F) ho'
  obtain ⟨g1, g2, g3, g4, -⟩ := hP p hp'
  have hx := g4 (by omega)
  have ip : vp_in (nI p) 30 := vp_in_nI (by omega) (by omega)
  have ix : vp_in (nI (x p)) 4 := vp_in_nI hx (by omega)
  have cp : (nI p).toNatClampNeg = p := pf_cl (by omega)
  have cx : (nI (x p)).toNatClampNeg = x p := pf_cl (by omega)
  have c12' : pm_cl o y R p < 12 := c12
  have hce' : ce (pm_cl o y R p) = C (pm_cl o y R p) := hce
  rw [hst] at h0 h1
  revert h0 h1 c12' hce'
  show _ → _ → _ → _ → _
  dsimp only [pm_p, pm_r, pm_c]
  generalize pm_cl o y R p = c
  intro h0 h1 c12' hce'
  have cc : (nI c).toNatClampNeg = c := pf_cl (by omega)
  have ic : vp_in (nI c) 12 := vp_in_nI c12' (by omega)
  refine ⟨ip, nm_r (e' := nI (x p)) (by rw [cp, g3 (by omega)]) ?_⟩
  refine pk_eq (o p) 5 (fun e => absurd e (by omega)) (fun _ => ?_)
  refine pk_eq (o p) 7 (fun e => absurd e (by omega)) (fun _ => ?_)
  have ex : ∀ rd : Int32, (∀ rg : Nat → Int32, px_V (p + 1, O, S, L, upd R (x p) (C c), C, F) rg ls ll → post (ln, pl, ct, ol, rd, wr, sr, tk, fl, oc, fx, fy, fz, ce, sv, fr, rg, ls, ll)) → wX_moveCell_74 post (nI c) (nI (x p)) ln pl ct ol rd wr sr tk fl oc fx fy fz ce sv fr rg ls ll := by
    intro rd H
    refine ⟨ic, ix, nm_r (e' := upd rg (x p) (C c)) (by rw [cx, cc, hce']) (H _ (px_Vr hV))⟩
  refine br_c (fun b => nm_e (ex _ (h0 ((pf_tst wr (by omega)).mp b)))) (fun b => ex _ (h1 ?_))
  cases q : bt wr c with
  | false => exact absurd ((pf_tst wr (by omega)).mpr q) b
  | true => rfl
theorem px_store {post : SX → Prop} {m : PM} (hP : px_PG n oc fx fy fz o x y z) (hn : n ≤ 30) (hp : pm_p m < n) (ho : o (pm_p m) = 5 ∨ o (pm_p m) = 7) (hV : px_V m rg ls ll)
    (h0 : px_V (pm_st o x y z fy m) rg ls ll → post (ln, pl, ct, ol, rd, wr ||| ((1 : Int32) <<< (nI (pm_cl o y (pm_r m) (pm_p m)) &&& 31)), sr, tk, fl, oc, fx, fy, fz, upd ce (pm_cl o y (pm_r m) (pm_p m)) (pm_r m (x (pm_p m))), sv, fr, rg, ls, ll)) : wpX_moveCell post (ln, pl, ct, ol, rd, wr, sr, tk, fl, oc, fx, fy, fz, ce, sv, fr, rg, ls, ll) (nI (o (pm_p m))) (nI (pm_p m)) := by
  have c12 := px_cl12 hP hp (by omega) (by omega)
  unfold wpX_moveCell
  refine px_cell hP hn hp (by omega) (by omega) hV ?_
  obtain ⟨p, O, S, L, R, C, F⟩ := m
  have hp' : p < n := hp
  have ho' : o p = 5 ∨ o p = 7 := ho
  have hst := pm_st57 (x := x) (y := y) (z := z) (fy := fy) (O := O) (S := S) (L := L) (R := R) (C := C) (F := F) ho'
  obtain ⟨g1, g2, g3, g4, -⟩ := hP p hp'
  have hx := g4 (by omega)
  have ip : vp_in (nI p) 30 := vp_in_nI (by omega) (by omega)
  have ix : vp_in (nI (x p)) 4 := vp_in_nI hx (by omega)
  have cp : (nI p).toNatClampNeg = p := pf_cl (by omega)
  have cx : (nI (x p)).toNatClampNeg = x p := pf_cl (by omega)
  have c12' : pm_cl o y R p < 12 := c12
  rw [hst] at h0
  revert h0 c12'
  show _ → _ → _
  dsimp only [pm_p, pm_r, pm_c]
  generalize pm_cl o y R p = c
  intro h0 c12'
  have cc : (nI c).toNatClampNeg = c := pf_cl (by omega)
  have ic : vp_in (nI c) 12 := vp_in_nI c12' (by omega)
  have hr : rg (x p) = R (x p) := hV.1 (x p) hx
  have ex : wX_moveCell_25 post (nI c) (nI (x p)) ln pl ct ol rd wr sr tk fl oc fx fy fz ce sv fr rg ls ll :=
    ⟨ix, ic, nm_r (e' := upd ce c (R (x p))) (by rw [cx, cc, hr]) (nm_e (h0 ⟨hV.1, hV.2.1, hV.2.2⟩))⟩
  refine ⟨ip, nm_r (e' := nI (x p)) (by rw [cp, g3 (by omega)]) ?_⟩
  exact pk_eq (o p) 5 (fun _ => ex) (fun _ => pk_eq (o p) 7 (fun _ => ex) (fun _ => absurd ho' (by omega)))
theorem px_ctl {post : SX → Prop} {m : PM} (hP : px_PG n oc fx fy fz o x y z) (hn : n ≤ 30) (hS : pm_Sd n o y) (hI : pm_Inv n o m) (hp : pm_p m < n) (ho : 8 ≤ o (pm_p m)) (hV : px_V m rg ls ll)
    (h : ∀ ls ll : Nat → Int32, px_V (pm_st o x y z fy m) rg ls ll → post (ln, nI (pm_p (pm_st o x y z fy m)), ct, nI (pm_o (pm_st o x y z fy m)), rd, wr, sr, tk, fl, oc, fx, fy, fz, ce, sv, fr, rg, ls, ll)) :
    wpX_control post (ln, nI (pm_p m + 1), ct, nI (pm_o m), rd, wr, sr, tk, fl, oc, fx, fy, fz, ce, sv, fr, rg, ls, ll) (nI (o (pm_p m))) (nI (pm_p m)) := by
  obtain ⟨p, O, S, L, R, C, F⟩ := m
  have hp' : p < n := hp
  have ho' : 8 ≤ o p := ho
  obtain ⟨g1, g2, g3, g4, g5, g6, g7, g8, g9, g10⟩ := hP p hp'
  have hI' : pm_Iv n o p O S L F := hI
  obtain ⟨-, hO, hk⟩ := hI'
  have ip : vp_in (nI p) 30 := vp_in_nI (by omega) (by omega)
  have cp : (nI p).toNatClampNeg = p := pf_cl (by omega)
  refine pk_eq (o p) 8 (fun e => ?_) (fun e => ?_)
  · have hx := g4 (by omega)
    have ix : vp_in (nI (x p)) 4 := vp_in_nI hx (by omega)
    have cx : (nI (x p)).toNatClampNeg = x p := pf_cl (by omega)
    have hr : rg (x p) = R (x p) := hV.1 (x p) hx
    refine ⟨ip, by rw [cp, g3 (by omega)]; exact ix, ?_⟩
    show (0 < rg (fx (nI p).toNatClampNeg).toNatClampNeg → _) ∧ (¬ 0 < rg (fx (nI p).toNatClampNeg).toNatClampNeg → _)
    rw [cp, g3 (by omega), cx, hr]
    refine br_c (fun b => ?_) (fun b => ⟨ip, nm_r (e' := nI (p + y p + 1)) ?_ ?_⟩)
    · rw [pm_st8p e b] at h
      exact h ls ll hV
    · rw [g6 (by omega) (by omega)]
      show nI (p + 1) + nI (y p) = _
      rw [nI_add, show p + 1 + y p = p + y p + 1 from by omega]
    · rw [pm_st8n e b] at h
      exact h ls ll hV
  · refine pk_eq (o p) 9 (fun e9 => ?_) (fun e9 => ?_)
    · have O2 : O < 2 := by
        have := (hS.2 p hp').1
        rw [pm_D9 e9, ← hO] at this
        omega
      have iO : vp_in (nI O) 2 := vp_in_nI O2 (by omega)
      have cO : (nI O).toNatClampNeg = O := pf_cl (by omega)
      rw [pm_st9 e9] at h
      refine ⟨iO, nm_r (e' := upd ls O (nI p)) (by rw [cO]) ⟨ip, iO, nm_r (e' := upd ll O (nI (x p))) (by rw [cO, cp, g3 (by omega)]) (nm_r (nI_1 O) (h _ _ ⟨hV.1, fun i hi => ?_, fun i hi => ?_⟩))⟩⟩
      · show upd ls O (nI p) i = nI (pm_up S O p i)
        by_cases q : i = O
        · rw [q, pk_us, pm_us]
        · rw [pk_un q, pm_un q]; exact hV.2.1 i hi
      · show upd ll O (nI (x p)) i = nI (pm_up L O (x p) i)
        by_cases q : i = O
        · rw [q, pk_us, pm_us]
        · rw [pk_un q, pm_un q]; exact hV.2.2 i hi
    · have e10 : o p = 10 := by omega
      have O0 : 0 < O := by rw [hO]; exact (hS.2 p hp').2.1 e10
      have O2 : O ≤ 2 := by rw [hO]; exact pm_D2 hS p (by omega)
      obtain ⟨d, rfl⟩ : ∃ d, O = d + 1 := ⟨O - 1, by omega⟩
      obtain ⟨b1, b2, b3, b4, b5, b6, b7⟩ := hk d (by omega)
      have id : vp_in (nI d) 2 := vp_in_nI (by omega) (by omega)
      have cd : (nI d).toNatClampNeg = d := pf_cl (by omega)
      have hl : ll d = nI (L d) := hV.2.2 d (by omega)
      have hs : ls d = nI (S d) := hV.2.1 d (by omega)
      have ed : nI (L d) - 1 = nI (L d - 1) := pk_sub (b := 1) b5
      have hV' : px_V (p, d + 1, S, pm_up L d (L d - 1), R, C, F) rg ls (upd ll d (nI (L d - 1))) := by
        refine ⟨hV.1, hV.2.1, fun i hi => ?_⟩
        show upd ll d (nI (L d - 1)) i = nI (pm_up L d (L d - 1) i)
        by_cases q : i = d
        · rw [q, pk_us, pm_us]
        · rw [pk_un q, pm_un q]; exact hV.2.2 i hi
      refine nm_r (e' := nI d) (nI_pred d) ⟨id, id, nm_r (e' := upd ll d (nI (L d - 1))) (by rw [cd, hl, ed]) ⟨id, ?_⟩⟩
      rw [cd, pk_us]
      refine pk_le (L d - 1) 0 (fun q => ?_) (fun q => ⟨id, nm_r (e' := nI (S d + 1)) (by rw [hs, nI_1]) ?_⟩)
      · rw [pm_st10x e10 (by omega)] at h
        exact h ls _ hV'
      · rw [pm_st10b e10 (by omega)] at h
        exact h ls _ hV'
end
end
section
/-! ===== the component's step, within a stretch and at a stretch's end ===== -/
/-- what does not last, the bits and the cells, k steps along the trace with the save at j -/
def px_L (o y : Nat → Nat) (tr : Nat → PM) (j k e : Nat) (rd wr : Int32) (ce rg ls ll : Nat → Int32) : Prop :=
  px_V (tr k) rg ls ll ∧ (∀ c, c < 12 → (bt rd c = true ↔ pm_RD o y tr j k c)) ∧ (∀ c, c < 12 → (bt wr c = true ↔ pm_WR o y tr j k c)) ∧ pm_Ck o y tr j k e ce
section
variable {ln pl ct ol rd wr sr tk fl : Int32} {oc fx fy fz ce sv fr rg ls ll : Nat → Int32} {n N : Nat} {o x y z : Nat → Nat} {tr : Nat → PM} {j k e t : Nat}
/-- a step that touches no cell -/
theorem px_Lk {rg' ls' ll' : Nat → Int32} (ht : tr (k + 1) = pm_st o x y z fy (tr k)) (hj : j ≤ k) (ho : o (pm_p (tr k)) < 4 ∨ 8 ≤ o (pm_p (tr k))) (hL : px_L o y tr j k e rd wr ce rg ls ll)
    (hV : px_V (pm_st o x y z fy (tr k)) rg' ls' ll') : px_L o y tr j (k + 1) e rd wr ce rg' ls' ll' := by
  obtain ⟨_, h1, h2, h3⟩ := hL
  refine ⟨by rw [ht]; exact hV, fun c hc => ?_, fun c hc => ?_, pm_Cn ht (by omega) hj h3⟩
  · rw [h1 c hc, pm_RDs hj]
    refine ⟨Or.inl, fun q => q.elim id (fun q => ?_)⟩
    have := q.1.1
    omega
  · rw [h2 c hc, pm_WRs hj]
    refine ⟨Or.inl, fun q => q.elim id (fun q => ?_)⟩
    have := q.1
    omega
theorem px_69 {post : SX → Prop} (hP : px_PG n oc fx fy fz o x y z) (hn : n ≤ 30) (hS : pm_Sd n o y) (hI : pm_Inv n o (tr k)) (hp : pm_p (tr k) < n) (ht : tr (k + 1) = pm_st o x y z fy (tr k))
    (hE : pm_E o y tr N j e) (hj : j ≤ k) (hk : k < e) (hL : px_L o y tr j k e rd wr ce rg ls ll) (htk : t < 1000)
    (hc : t = 0 → px_Cr post ln oc fx fy fz ce sv fr)
    (hs : 0 < t → ∀ (rd wr : Int32) (ce rg ls ll : Nat → Int32), px_L o y tr j (k + 1) e rd wr ce rg ls ll → post (ln, nI (pm_p (tr (k + 1))), nI (k + 1), nI (pm_o (tr (k + 1))), rd, wr, nI (k + 1 - j), nI (t - 1), fl, oc, fx, fy, fz, ce, sv, fr, rg, ls, ll)) :
    wX_step_69 post (nI (pm_p (tr k))) (nI (o (pm_p (tr k)))) ln (nI (pm_p (tr k))) (nI k) (nI (pm_o (tr k))) rd wr (nI (k - j)) (nI t) fl oc fx fy fz ce sv fr rg ls ll := by
  have h10 := (hP _ hp).2.1
  obtain ⟨hV, h1, h2, h3⟩ := id hL
  unfold wX_step_69
  refine px_tick t htk (fun q => ?_) (fun q => ?_)
  · intro pl ct ol rd wr sr tk rg ls ll
    exact br_t rfl (hc q _ _ _ _ _ _ _ _ _ _)
  · refine br_f (by decide) (nm_r (e' := nI (k + 1 - j)) (by rw [nI_1, show k - j + 1 = k + 1 - j from by omega]) (nm_r (nI_1 k) (nm_r (nI_1 (pm_p (tr k))) ?_)))
    have hs' := hs q
    rw [ht] at hs'
    refine pk_lt (o (pm_p (tr k))) 8 (fun h8 => ?_) (fun h8 => ?_)
    · obtain ⟨e1, e2, -, -⟩ := pm_pn (x := x) (y := y) (z := z) (fy := fy) h8
      rw [e1, e2] at hs'
      refine pk_lt (o (pm_p (tr k))) 4 (fun h4 => ?_) (fun h4 => ?_)
      · exact px_comp hP hn hp h4 hV (fun rg' hV' => hs' _ _ _ _ _ _ (px_Lk ht hj (Or.inl h4) hL hV'))
      · by_cases ho : o (pm_p (tr k)) = 4 ∨ o (pm_p (tr k)) = 6
        · have c12 := px_cl12 hP hp h4 (by omega)
          have hno : ¬ (o (pm_p (tr k)) = 5 ∨ o (pm_p (tr k)) = 7) := by omega
          have hW : ∀ c, pm_WR o y tr j (k + 1) c ↔ pm_WR o y tr j k c := fun c => by
            rw [pm_WRs hj]
            exact ⟨fun q => q.elim id (fun q => absurd q.1 hno), Or.inl⟩
          refine px_load hP hn hp ho hV (pm_Crd hE hj hk ⟨ho, rfl⟩ h3) (fun hb rg' hV' => ?_) (fun hb rg' hV' => ?_)
          · refine hs' _ _ _ _ _ _ ⟨by rw [ht]; exact hV', fun c hc => ?_, fun c hc => by rw [h2 c hc, hW], pm_Cn ht hno hj h3⟩
            rw [pf_or rd (by omega) (by omega), pm_RDs hj, ← h1 c hc, Bool.or_eq_true, decide_eq_true_iff]
            refine ⟨fun q => q.elim Or.inl (fun q => Or.inr ⟨⟨ho, q⟩, ?_⟩), fun q => q.elim Or.inl (fun q => Or.inr q.1.2)⟩
            rw [← h2 c hc, q, hb]
            decide
          · refine hs' _ _ _ _ _ _ ⟨by rw [ht]; exact hV', fun c hc => ?_, fun c hc => by rw [h2 c hc, hW], pm_Cn ht hno hj h3⟩
            rw [pm_RDs hj, h1 c hc]
            refine ⟨Or.inl, fun q => q.elim id (fun q => absurd ?_ q.2)⟩
            rw [← h2 c hc, q.1.2]
            exact hb
        · have ho' : o (pm_p (tr k)) = 5 ∨ o (pm_p (tr k)) = 7 := by omega
          have c12 := px_cl12 hP hp h4 (by omega)
          refine px_store hP hn hp ho' hV (fun hV' => ?_)
          refine hs' _ _ _ _ _ _ ⟨by rw [ht]; exact hV', fun c hc => ?_, fun c hc => ?_, pm_Cw ht ho' hj h3⟩
          · rw [pm_RDs hj, h1 c hc]
            exact ⟨Or.inl, fun q => q.elim id (fun q => absurd q.1.1 ho)⟩
          · rw [pf_or wr (by omega) (by omega), pm_WRs hj, ← h2 c hc, Bool.or_eq_true, decide_eq_true_iff]
            exact ⟨fun q => q.elim Or.inl (fun q => Or.inr ⟨ho', q⟩), fun q => q.elim Or.inl (fun q => Or.inr q.2)⟩
    · exact px_ctl hP hn hS hI hp h8 hV (fun ls' ll' hV' => hs' _ _ _ _ _ _ (px_Lk ht hj (Or.inr h8) hL hV'))
theorem px_L0 (hV : px_V (tr k) rg ls ll) (hC : pm_Ck o y tr k k e ce) : px_L o y tr k k e 0 0 ce rg ls ll := by
  refine ⟨hV, fun c hc => ?_, fun c hc => ?_, hC⟩
  · rw [b_0]
    exact ⟨fun q => absurd q (by decide), fun q => absurd q pm_RDj⟩
  · rw [b_0]
    exact ⟨fun q => absurd q (by decide), fun q => absurd q pm_WRj⟩
/-- the save ahead of an instruction, then the instruction -/
theorem px_57 {post : SX → Prop} {q : Nat} (hP : px_PG n oc fx fy fz o x y z) (hn : n ≤ 30) (hS : pm_Sd n o y) (hI : pm_Inv n o (tr k)) (hp : pm_p (tr k) < n) (ht : ∀ k, tr (k + 1) = pm_st o x y z fy (tr k))
    (hk : k < N) (hj : j ≤ k) (hL : px_L o y tr j k k rd wr ce rg ls ll) (hE : pm_E o y tr N j k) (hSv : px_Sv (tr j) j q sv) (hq : q + 1 < 1000000) (htk : t < 1000)
    (hc1 : t < 12 → ∀ sv : Nat → Int32, px_Sv (tr j) j q sv → px_Cr post ln oc fx fy fz ce sv fr)
    (hc2 : 12 ≤ t → ∀ sv : Nat → Int32, px_Sv (tr k) k (q + 1) sv → px_Cr post ln oc fx fy fz ce sv fr)
    (hs : 12 < t → ∀ (e' : Nat) (rd wr : Int32) (ce sv rg ls ll : Nat → Int32), pm_E o y tr N k e' → k < e' → px_Sv (tr k) k (q + 1) sv → px_L o y tr k (k + 1) e' rd wr ce rg ls ll → post (ln, nI (pm_p (tr (k + 1))), nI (k + 1), nI (pm_o (tr (k + 1))), rd, wr, nI 1, nI (t - 12 - 1), 0, oc, fx, fy, fz, ce, sv, fr, rg, ls, ll)) :
    wX_step_57 post (nI (pm_p (tr k))) (nI (o (pm_p (tr k)))) ln (nI (pm_p (tr k))) (nI k) (nI (pm_o (tr k))) rd wr (nI (k - j)) (nI t) 0 oc fx fy fz ce sv fr rg ls ll := by
  obtain ⟨hV, h1, h2, h3⟩ := hL
  unfold wX_step_57
  refine px_save hV hSv hq htk (fun h12 sv' hS' => ?_) (fun h12 sv' hS' => ?_)
  · intro pl ct ol rd wr sr tk rg ls ll
    exact br_f (by decide) (hc1 h12 sv' hS' _ _ _ _ _ _ _ _ _ _)
  · refine br_t rfl ?_
    obtain ⟨e', hE'⟩ := pm_E1 (o := o) (y := y) (tr := tr) (N := N) (j := k) (by omega)
    have he' := pm_Ej hE' hk
    have hce := pm_Ce h3
    have K := px_69 (ln := ln) (fl := 0) (sv := sv') (fr := fr) (j := k) (t := t - 12) (post := post) hP hn hS hI hp (ht k) hE' (Nat.le_refl k) he' (px_L0 hV (by rw [hce]; exact pm_C0)) (by omega)
      (fun q0 => hc2 h12 sv' hS') (fun q0 rd wr ce rg ls ll hL' => by
        have := hs (by omega) e' rd wr ce sv' rg ls ll hE' he' hS' hL'
        rw [show k + 1 - k = 1 from by omega]
        exact this)
    rw [Nat.sub_self] at K
    exact K
/-- the step, in the stretch -/
theorem px_stepA {post : SX → Prop} (hP : px_PG n oc fx fy fz o x y z) (hn : n ≤ 30) (hS : pm_Sd n o y) (hI : pm_Inv n o (tr k)) (hp : pm_p (tr k) < n) (ht : tr (k + 1) = pm_st o x y z fy (tr k))
    (hE : pm_E o y tr N j e) (hj : j ≤ k) (hk : k < e) (hL : px_L o y tr j k e rd wr ce rg ls ll) (htk : t < 1000)
    (hc : t = 0 → px_Cr post ln oc fx fy fz ce sv fr)
    (hs : 0 < t → ∀ (rd wr : Int32) (ce rg ls ll : Nat → Int32), px_L o y tr j (k + 1) e rd wr ce rg ls ll → post (ln, nI (pm_p (tr (k + 1))), nI (k + 1), nI (pm_o (tr (k + 1))), rd, wr, nI (k + 1 - j), nI (t - 1), fl, oc, fx, fy, fz, ce, sv, fr, rg, ls, ll)) :
    wpX_step post (ln, nI (pm_p (tr k)), nI k, nI (pm_o (tr k)), rd, wr, nI (k - j), nI t, fl, oc, fx, fy, fz, ce, sv, fr, rg, ls, ll) := by
  have K := px_69 (ln := ln) (fl := fl) (sv := sv) (fr := fr) (post := post) hP hn hS hI hp ht hE hj hk hL htk hc hs
  obtain ⟨g1, g2, -⟩ := hP _ hp
  have ip : vp_in (nI (pm_p (tr k))) 30 := vp_in_nI (by omega) (by omega)
  have cp : (nI (pm_p (tr k))).toNatClampNeg = pm_p (tr k) := pf_cl (by omega)
  have h11 : k - j < 11 := by have := hE.2.2.1; omega
  have hlt : k - j ≠ 10 := by have := hE.2.2.1; omega
  have hst : (o (pm_p (tr k)) = 5 ∨ o (pm_p (tr k)) = 7) → wX_step_23 post (nI (pm_p (tr k))) (nI (o (pm_p (tr k)))) ln (nI (pm_p (tr k))) (nI k) (nI (pm_o (tr k))) rd wr (nI (k - j)) (nI t) fl oc fx fy fz ce sv fr rg ls ll := by
    intro ho
    have c12 := px_cl12 hP hp (by omega) (by omega)
    refine pk_eq (k - j) 10 (fun q => absurd q hlt) (fun _ => br_f (by decide) (px_cell hP hn hp (by omega) (by omega) hL.1 (br_t ((pf_tst rd (by omega)).mpr ?_) K)))
    cases q : bt rd (pm_cl o y (pm_r (tr k)) (pm_p (tr k))) with
    | false => rfl
    | true => exact absurd ⟨_, ⟨ho, rfl⟩, (hL.2.1 _ c12).mp q⟩ (hE.2.2.2.1 k hj hk)
  refine ⟨ip, nm_r (e' := nI (o (pm_p (tr k)))) (by rw [cp, g1]) ?_⟩
  refine pk_eq (o (pm_p (tr k))) 5 (fun q => hst (Or.inl q)) (fun _ => ?_)
  refine pk_eq (o (pm_p (tr k))) 7 (fun q => hst (Or.inr q)) (fun _ => ?_)
  exact pk_eq (k - j) 10 (fun q => absurd q hlt) (fun _ => br_t rfl K)
/-- the step, at the stretch's end -/
theorem px_stepB {post : SX → Prop} {q : Nat} (hP : px_PG n oc fx fy fz o x y z) (hn : n ≤ 30) (hS : pm_Sd n o y) (hI : pm_Inv n o (tr k)) (hp : pm_p (tr k) < n) (ht : ∀ k, tr (k + 1) = pm_st o x y z fy (tr k))
    (hk : k < N) (hj : j ≤ k) (hL : px_L o y tr j k k rd wr ce rg ls ll) (hE : pm_E o y tr N j k) (hSv : px_Sv (tr j) j q sv) (hq : q + 1 < 1000000) (htk : t < 1000)
    (hc1 : t < 12 → ∀ sv : Nat → Int32, px_Sv (tr j) j q sv → px_Cr post ln oc fx fy fz ce sv fr)
    (hc2 : 12 ≤ t → ∀ sv : Nat → Int32, px_Sv (tr k) k (q + 1) sv → px_Cr post ln oc fx fy fz ce sv fr)
    (hs : 12 < t → ∀ (e' : Nat) (rd wr : Int32) (ce sv rg ls ll : Nat → Int32), pm_E o y tr N k e' → k < e' → px_Sv (tr k) k (q + 1) sv → px_L o y tr k (k + 1) e' rd wr ce rg ls ll → post (ln, nI (pm_p (tr (k + 1))), nI (k + 1), nI (pm_o (tr (k + 1))), rd, wr, nI 1, nI (t - 12 - 1), 0, oc, fx, fy, fz, ce, sv, fr, rg, ls, ll)) :
    wpX_step post (ln, nI (pm_p (tr k)), nI k, nI (pm_o (tr k)), rd, wr, nI (k - j), nI t, 0, oc, fx, fy, fz, ce, sv, fr, rg, ls, ll) := by
  have K := px_57 (ln := ln) (fr := fr) (post := post) hP hn hS hI hp ht hk hj hL hE hSv hq htk hc1 hc2 hs
  obtain ⟨g1, g2, -⟩ := hP _ hp
  have ip : vp_in (nI (pm_p (tr k))) 30 := vp_in_nI (by omega) (by omega)
  have cp : (nI (pm_p (tr k))).toNatClampNeg = pm_p (tr k) := pf_cl (by omega)
  have h11 : k - j < 11 := by have := hE.2.2.1; omega
  have hz : k - j ≠ 10 → pm_hz o y tr j k := by
    intro h
    rcases hE.2.2.2.2 with a | a | a
    · omega
    · omega
    · exact a
  have hst : (o (pm_p (tr k)) = 5 ∨ o (pm_p (tr k)) = 7) → wX_step_23 post (nI (pm_p (tr k))) (nI (o (pm_p (tr k)))) ln (nI (pm_p (tr k))) (nI k) (nI (pm_o (tr k))) rd wr (nI (k - j)) (nI t) 0 oc fx fy fz ce sv fr rg ls ll := by
    intro ho
    have c12 := px_cl12 hP hp (by omega) (by omega)
    refine pk_eq (k - j) 10 (fun _ => K) (fun h10 => br_f (by decide) (px_cell hP hn hp (by omega) (by omega) hL.1 (br_f (fun b => ?_) K)))
    obtain ⟨c, c1, c2⟩ := hz h10
    have b' := (pf_tst rd (by omega)).mp b
    rw [← c1.2] at b' c12
    rw [(hL.2.1 c c12).mpr c2] at b'
    exact absurd b' (by decide)
  refine ⟨ip, nm_r (e' := nI (o (pm_p (tr k)))) (by rw [cp, g1]) ?_⟩
  refine pk_eq (o (pm_p (tr k))) 5 (fun q => hst (Or.inl q)) (fun n5 => ?_)
  refine pk_eq (o (pm_p (tr k))) 7 (fun q => hst (Or.inr q)) (fun n7 => ?_)
  refine pk_eq (k - j) 10 (fun _ => K) (fun h10 => ?_)
  obtain ⟨c, c1, c2⟩ := hz h10
  have := c1.1
  omega
end
end
section
/-! ===== the component's run: rounds between failures ===== -/
section
variable {ln pl ct ol rd wr sr tk fl : Int32} {oc fx fy fz ce sv fr rg ls ll : Nat → Int32} {n N : Nat} {o x y z : Nat → Nat} {tr : Nat → PM} {j0 : Nat}
variable {post : Int32 → SX → Prop} {J : Int32 → Int32 → Int32 → Int32 → Int32 → Int32 → Int32 → Int32 → Int32 → Int32 → (Nat → Int32) → (Nat → Int32) → (Nat → Int32) → (Nat → Int32) → (Nat → Int32) → (Nat → Int32) → (Nat → Int32) → (Nat → Int32) → (Nat → Int32) → (Nat → Int32) → Prop} {x2 : Int32}
theorem px_dead {f : Nat} (hf : 0 < f) (h : J 0 ln pl ct ol rd wr sr tk 1 oc fx fy fz ce sv fr rg ls ll) : wX_run_58 post J x2 f ln pl ct ol rd wr sr tk 1 oc fx fy fz ce sv fr rg ls ll := by
  cases f with
  | zero => omega
  | succ f => exact br_f (by decide) (br_f (by decide) (br_f (by decide) h))
/-- what the rounds keep: the save at j, and cells good for doing it over from there -/
def px_P (o y : Nat → Nat) (tr : Nat → PM) (N j : Nat) (ce sv : Nat → Int32) : Prop := j ≤ N ∧ ∃ q e, q ≤ j + 1 ∧ px_Sv (tr j) j q sv ∧ pm_E o y tr N j e ∧ pm_Ck o y tr j j e ce
theorem px_58 (hP : px_PG n oc fx fy fz o x y z) (hn : n ≤ 30) (hS : pm_Sd n o y) (hN : N ≤ 1080) (hI : ∀ k, k ≤ N → pm_Inv n o (tr k)) (hp : ∀ k, k < N → pm_p (tr k) < n) (hpN : pm_p (tr N) = n) (ht : ∀ k, tr (k + 1) = pm_st o x y z fy (tr k))
    (hJ0 : ∀ (j : Nat) (ce sv : Nat → Int32), j0 < j → px_P o y tr N j ce sv → ∀ (pl ct ol rd wr sr tk : Int32) (rg ls ll : Nat → Int32), J 0 (nI n) pl ct ol rd wr sr tk 1 oc fx fy fz ce sv fr rg ls ll)
    (hJ1 : ∀ (pl ol rd wr sr tk : Int32) (sv rg ls ll : Nat → Int32), px_V (tr N) rg ls ll → J 1 (nI n) pl (nI N) ol rd wr sr tk 0 oc fx fy fz (pm_c (tr N)) sv fr rg ls ll) :
    ∀ (f j k q e t : Nat) (rd wr : Int32) (ce sv rg ls ll : Nat → Int32), t + 2 ≤ f → t < 1000 → j ≤ k → k ≤ e → j0 ≤ j → (j = j0 → 28 ≤ t + (k - j)) → q ≤ j + 1 → px_Sv (tr j) j q sv → pm_E o y tr N j e → px_L o y tr j k e rd wr ce rg ls ll →
      wX_run_58 post J x2 f (nI n) (nI (pm_p (tr k))) (nI k) (nI (pm_o (tr k))) rd wr (nI (k - j)) (nI t) 0 oc fx fy fz ce sv fr rg ls ll := by
  intro f
  induction f with
  | zero => intro j k q e t rd wr ce sv rg ls ll h1; omega
  | succ f ih =>
    intro j k q e t rd wr ce sv rg ls ll h1 h2 h3 h4 h5 h6 h7 hSv hE hL
    have eN := hE.2.1
    have e10 := hE.2.2.1
    have hPj : ∀ sv : Nat → Int32, px_Sv (tr j) j q sv → px_P o y tr N j ce sv := fun sv' hS' => ⟨by omega, q, e, h7, hS', hE, pm_Cc ht h3 h4 hL.2.2.2⟩
    refine br_t rfl ?_
    by_cases kN : k = N
    · have ek : e = k := by omega
      refine br_t (by rw [kN, hpN]; exact nI_le (Nat.le_refl n) (by omega)) (br_t rfl (px_save hL.1 hSv (by omega) h2 (fun h12 sv' hS' => ?_) (fun h12 sv' hS' => ?_)))
      · intro pl ct ol rd wr sr tk rg ls ll
        exact br_f (by decide) (hJ0 j ce sv' (by omega) (hPj sv' hS') _ _ _ _ _ _ _ _ _ _)
      · have hce : ce = pm_c (tr k) := pm_Ce (by rw [ek] at hL; exact hL.2.2.2)
        rw [hce, kN]
        exact br_t rfl (hJ1 _ _ _ _ _ _ _ _ _ _ (by rw [← kN]; exact hL.1))
    · have hpk := hp k (by omega)
      refine br_f (nI_ge hpk (by omega)) ?_
      by_cases ke : k < e
      · refine px_stepA hP hn hS (hI k (by omega)) hpk (ht k) hE h3 ke hL h2 (fun q0 => ?_) (fun q0 rd' wr' ce' rg' ls' ll' hL' => ?_)
        · intro pl ct ol rd wr sr tk rg ls ll
          exact px_dead (by omega) (hJ0 j ce sv (by omega) (hPj sv hSv) _ _ _ _ _ _ _ _ _ _)
        · exact ih j (k + 1) q e (t - 1) rd' wr' ce' sv rg' ls' ll' (by omega) (by omega) (by omega) (by omega) h5 (by omega) h7 hSv hE hL'
      · have ek : e = k := by omega
        rw [ek] at hE hL
        have jk : j < k := pm_Ej hE (by omega)
        refine px_stepB (q := q) hP hn hS (hI k (by omega)) hpk ht (by omega) h3 hL hE hSv (by omega) h2 (fun h12 sv' hS' => ?_) (fun h12 sv' hS' => ?_) (fun h12 e' rd' wr' ce' sv' rg' ls' ll' hE' ke' hS' hL' => ?_)
        · intro pl ct ol rd wr sr tk rg ls ll
          exact px_dead (by omega) (hJ0 j ce sv' (by omega) (hPj sv' hS') _ _ _ _ _ _ _ _ _ _)
        · intro pl ct ol rd wr sr tk rg ls ll
          obtain ⟨e', hE'⟩ := pm_E1 (o := o) (y := y) (tr := tr) (N := N) (j := k) (by omega)
          have hce : ce = pm_c (tr k) := pm_Ce hL.2.2.2
          exact px_dead (by omega) (hJ0 k ce sv' (by omega) ⟨by omega, q + 1, e', by omega, hS', hE', by rw [hce]; exact pm_C0⟩ _ _ _ _ _ _ _ _ _ _)
        · have K := ih k (k + 1) (q + 1) e' (t - 12 - 1) rd' wr' ce' sv' rg' ls' ll' (by omega) (by omega) (by omega) (by omega) (by omega) (by omega) (by omega) hS' hE' hL'
          rw [show k + 1 - k = 1 from by omega] at K
          exact K
theorem px_113 {ct : Int32} (h : ∀ fr : Nat → Int32, (∀ r, r < 4 → fr r = rg r) → post ct (ln, pl, ct, ol, rd, wr, sr, tk, fl, oc, fx, fy, fz, ce, sv, fr, rg, ls, ll)) : ∀ (f i : Nat) (fr : Nat → Int32), i ≤ 4 → 4 - i < f → (∀ r, r < i → fr r = rg r) → wX_run_113 post ln pl ct ol rd wr sr tk fl f (nI i) oc fx fy fz ce sv fr rg ls ll := by
  intro f
  induction f with
  | zero => intro i fr _ h2; omega
  | succ f ih =>
    intro i fr h1 h2 hr
    refine pk_le 4 i (fun hi => h fr (fun r hr' => hr r (by omega))) (fun hi => ?_)
    refine ⟨vp_in_nI hi (by omega), vp_in_nI hi (by omega), nm_r (e' := upd fr i (rg i)) (by rw [pf_cl (by omega)]) (nm_r (nI_1 i) (ih (i + 1) _ (by omega) (by omega) (fun r hr' => ?_)))⟩
    by_cases e : r = i
    · rw [e, pk_us]
    · rw [pk_un e]; exact hr r (by omega)
theorem px_40 {T : Nat} (hT : 28 ≤ T) (hT2 : T < 900) (hP : px_PG n oc fx fy fz o x y z) (hn : n ≤ 30) (hS : pm_Sd n o y) (hN : N ≤ 1080) (hI : ∀ k, k ≤ N → pm_Inv n o (tr k)) (hp : ∀ k, k < N → pm_p (tr k) < n) (hpN : pm_p (tr N) = n) (ht : ∀ k, tr (k + 1) = pm_st o x y z fy (tr k))
    (h : ∀ (pl ol rd wr sr tk : Int32) (sv fr rg ls ll : Nat → Int32), (∀ r, r < 4 → fr r = pm_r (tr N) r) → post (nI N) (nI n, pl, nI N, ol, rd, wr, sr, tk, 0, oc, fx, fy, fz, pm_c (tr N), sv, fr, rg, ls, ll)) :
    ∀ (f j : Nat) (ce sv : Nat → Int32), N + 2 ≤ f + j → px_P o y tr N j ce sv → ∀ (pl ct ol rd wr sr tk fl : Int32) (rg ls ll : Nat → Int32), wX_run_40 post (nI (T + 12)) f 0 (nI n) pl ct ol rd wr sr tk fl oc fx fy fz ce sv fr rg ls ll := by
  intro f
  induction f with
  | zero => intro j ce sv h1 hPj; have := hPj.1; omega
  | succ f ih =>
    intro j ce sv h1 hPj pl ct ol rd wr sr tk fl rg ls ll
    obtain ⟨jN, q, e, hq, hSv, hE, hC⟩ := hPj
    refine br_t rfl (px_wake hSv hT2 (fun rg' ls' ll' hV => ⟨T + 2, ?_⟩))
    have K := px_58 (j0 := j) (post := post) (J := wX_run_40 post (nI (T + 12)) f) (x2 := nI (T + 12)) (fr := fr) hP hn hS hN hI hp hpN ht
      (fun j' ce' sv' hj' hP' pl ct ol rd wr sr tk rg ls ll => ih j' ce' sv' (by omega) hP' pl ct ol rd wr sr tk 1 rg ls ll)
      (fun pl ol rd wr sr tk sv rg ls ll hV' => by
        obtain ⟨f', rfl⟩ : ∃ f', f = f' + 1 := ⟨f - 1, by omega⟩
        exact br_f (by decide) ⟨5, px_113 (fun fr' hfr => h _ _ _ _ _ _ _ _ _ _ _ (fun r hr => by rw [hfr r hr]; exact hV'.1 r hr)) 5 0 fr (by omega) (by omega) (fun r hr => absurd hr (by omega))⟩)
      (T + 2) j j q e T 0 0 ce sv rg' ls' ll' (by omega) (by omega) (Nat.le_refl j) hE.1 (Nat.le_refl j) (by omega) hq hSv hE (px_L0 hV hC)
    rw [Nat.sub_self] at K
    exact K
theorem px_sfn {post : SX → Prop} (h : ∀ sv : Nat → Int32, (∀ w, w < 24 → sv w = if w = 11 then 1 else 0) → post (ln, pl, ct, ol, rd, wr, sr, tk, fl, oc, fx, fy, fz, ce, sv, fr, rg, ls, ll)) : ∀ (f i : Nat) (sv : Nat → Int32), i ≤ 24 → 24 - i < f → (∀ w, w < i → sv w = 0) → wX_startFromNothing_2 post ln pl ct ol rd wr sr tk fl f (nI i) oc fx fy fz ce sv fr rg ls ll := by
  intro f
  induction f with
  | zero => intro i sv _ h2; omega
  | succ f ih =>
    intro i sv h1 h2 hs
    refine pk_le 24 i (fun hi => nm_e (h _ (fun w hw => ?_))) (fun hi => ?_)
    · by_cases e : w = 11
      · rw [e, pk_us, if_pos rfl]
      · rw [pk_un e, if_neg e]; exact hs w (by omega)
    · refine ⟨vp_in_nI hi (by omega), nm_r (e' := upd sv i 0) (by rw [pf_cl (by omega)]) (nm_r (nI_1 i) (ih (i + 1) _ (by omega) (by omega) (fun w hw => ?_)))⟩
      by_cases e : w = i
      · rw [e, pk_us]
      · rw [pk_un e]; exact hs w (by omega)
theorem px_run {v1 : Int32} (hP : px_PG n oc fx fy fz o x y z) (hn : n ≤ 30) (hS : pm_Sd n o y) (hN : N ≤ 1080) (hI : ∀ k, k ≤ N → pm_Inv n o (tr k)) (hp : ∀ k, k < N → pm_p (tr k) < n) (hpN : pm_p (tr N) = n) (ht : ∀ k, tr (k + 1) = pm_st o x y z fy (tr k))
    {R F : Nat → Int32} (h0 : tr 0 = (0, 0, (fun _ => 0), (fun _ => 0), R, ce, F)) (hR : ∀ r, r < 4 → R r = 0)
    (hsd : ∀ post' : Int32 → Prop, post' 1 → wpX_sound post' (nI n, pl, ct, ol, rd, wr, sr, tk, fl, oc, fx, fy, fz, ce, sv, fr, rg, ls, ll))
    (h : ∀ (pl ol rd wr sr tk : Int32) (sv fr rg ls ll : Nat → Int32), (∀ r, r < 4 → fr r = pm_r (tr N) r) → post (nI N) (nI n, pl, nI N, ol, rd, wr, sr, tk, 0, oc, fx, fy, fz, pm_c (tr N), sv, fr, rg, ls, ll)) :
    wpX_run post (nI n, pl, ct, ol, rd, wr, sr, tk, fl, oc, fx, fy, fz, ce, sv, fr, rg, ls, ll) v1 := by
  have K : ∀ T : Nat, 28 ≤ T → T < 900 → wX_run_33 post (nI (T + 12)) (nI n) pl ct ol rd wr sr tk fl oc fx fy fz ce sv fr rg ls ll := by
    intro T hT hT2
    refine ⟨25, px_sfn (fun sv' hsv => ⟨N + 2, ?_⟩) 25 0 sv (by omega) (by omega) (fun w hw => absurd hw (by omega))⟩
    obtain ⟨e, hE⟩ := pm_E1 (o := o) (y := y) (tr := tr) (N := N) (j := 0) (by omega)
    refine px_40 hT hT2 hP hn hS hN hI hp hpN ht h (N + 2) 0 ce sv' (by omega) ⟨by omega, 1, e, by omega, ⟨0, ⟨by omega, Or.inl ⟨rfl, hsv 11 (by omega), 0, by omega, hsv 23 (by omega)⟩⟩, fun w hw => ?_⟩, hE, ?_⟩ pl ct ol rd wr sr tk fl rg ls ll
    · rw [Nat.zero_add, hsv w (by omega), if_neg (by omega), h0]
      unfold px_w
      by_cases w4 : w < 4
      · rw [if_pos w4]; exact (hR w w4).symm
      · rw [if_neg w4]
        dsimp only [pm_p, pm_o, pm_s, pm_l]
        repeat' split
        all_goals rfl
    · have : ce = pm_c (tr 0) := by rw [h0]
      rw [this]
      exact pm_C0
  refine hsd _ (br_f (by decide) ?_)
  by_cases h40 : 40 ≤ v1
  · refine br_t h40 ?_
    by_cases h100 : v1 ≤ 100
    · obtain ⟨a, ha, e⟩ := nI_of2 (x := v1) (M := 100) (n := 100) (by decide) (fun q => by
        have := Int32.lt_of_lt_of_le q (show (0 : Int32) ≤ 40 from by decide)
        exact Int32.not_lt.mpr h40 this) h100
      rw [e] at h40
      have h40' : 40 ≤ a := (nI_leI (a := 40) (by omega) (by omega)).mp h40
      refine br_t h100 ?_
      have := K (a - 12) (by omega) (by omega)
      rw [show a - 12 + 12 = a from by omega, ← e] at this
      exact this
    · exact br_f h100 (K 88 (by omega) (by omega))
  · exact br_f h40 (K 28 (by omega) (by omega))
end
end
section
/-! ===== sound: both sides answer alike ===== -/
section
variable {ln pl ct ol rd wr sr tk fl : Int32} {oc fx fy fz ce sv fr rg ls ll ax az yc yr yl : Nat → Int32} {n : Nat} {o x y z : Nat → Nat}
theorem ps_skip {i last : Nat} (hP : px_PG n oc fx fy fz o x y z) (hn : n ≤ 30) (hi : i < n) (h8 : o i = 8) (hl : last = i + y i) (hln : last < n) :
    ∀ f k : Nat, last + 1 - k < f → ∃ r : Int32, (r = 0 ∨ (r = 1 ∧ ∀ k', k ≤ k' → k' ≤ last → o k' < 9)) ∧ (∀ post : Int32 → Prop, post r → wX_mayLeaveOut_23 post (nI last) ln pl ct ol rd wr sr tk fl oc fx fy fz ce sv fr rg ls ll f (nI k)) ∧ (∀ post : Int32 → Prop, post r → wY_skipFits_21 post (nI i) ln oc ax fy az yc yr yl f (nI k)) ∨ 31 < k := by
  have ii : vp_in (nI i) 30 := vp_in_nI (by omega) (by omega)
  have ci : (nI i).toNatClampNeg = i := pf_cl (by omega)
  have ey : nI i + fy (nI i).toNatClampNeg = nI last := by
    rw [ci, (hP i hi).2.2.2.2.2.1 (by omega) (by omega), nI_add, hl]
  intro f
  induction f with
  | zero => intro k h; omega
  | succ f ih =>
    intro k h
    by_cases k31 : 31 < k
    · exact ⟨0, Or.inr k31⟩
    by_cases hk : last < k
    · refine ⟨1, Or.inl ⟨Or.inr ⟨rfl, fun k' h1 h2 => by omega⟩, fun post hp => ?_, fun post hp => ?_⟩⟩
      · exact br_t (nI_lt hk (by omega)) hp
      · exact ⟨ii, by rw [ey]; exact br_t (nI_lt hk (by omega)) hp⟩
    · obtain ⟨g1, g2, -⟩ := hP k (by omega)
      have ik : vp_in (nI k) 30 := vp_in_nI (by omega) (by omega)
      have ck : (nI k).toNatClampNeg = k := pf_cl (by omega)
      have hk' : ¬ nI last < nI k := nI_nlt (by omega) (by omega)
      by_cases h9 : o k < 9
      · obtain ⟨r, ⟨hr, hX, hY⟩ | hbad⟩ := ih (k + 1) (by omega)
        · refine ⟨r, Or.inl ⟨?_, fun post hp => ?_, fun post hp => ?_⟩⟩
          · rcases hr with hr | ⟨hr, hall⟩
            · exact Or.inl hr
            · refine Or.inr ⟨hr, fun k' h1 h2 => ?_⟩
              by_cases e : k' = k
              · rw [e]; exact h9
              · exact hall k' (by omega) h2
          · refine br_f hk' ⟨ik, ?_⟩
            rw [ck, g1]
            exact pk_eq (o k) 9 (fun e => absurd e (by omega)) (fun _ => ⟨ik, pk_eq (o k) 10 (fun e => absurd e (by omega)) (fun _ => nm_r (nI_1 k) (hX post hp))⟩)
          · refine ⟨ii, ?_⟩
            rw [ey]
            refine br_f hk' ⟨ik, ?_⟩
            rw [ck, g1]
            exact pk_lt (o k) 9 (fun _ => nm_r (nI_1 k) (hY post hp)) (fun e => absurd e (by omega))
        · omega
      · refine ⟨0, Or.inl ⟨Or.inl rfl, fun post hp => ?_, fun post hp => ?_⟩⟩
        · refine br_f hk' ⟨ik, ?_⟩
          rw [ck, g1]
          exact pk_eq (o k) 9 (fun _ => hp) (fun _ => ⟨ik, pk_eq (o k) 10 (fun _ => hp) (fun e => absurd g2 (by omega))⟩)
        · refine ⟨ii, ?_⟩
          rw [ey]
          refine br_f hk' ⟨ik, ?_⟩
          rw [ck, g1]
          exact pk_lt (o k) 9 (fun e => absurd e h9) (fun _ => hp)
/-- the skip at i stays within, and over plain instructions -/
theorem ps_may {i : Nat} (hP : px_PG n oc fx fy fz o x y z) (hn : n ≤ 30) (hi : i < n) (h8 : o i = 8) :
    ∃ r : Int32, (r = 0 ∨ (r = 1 ∧ i + y i < n ∧ ∀ k, i < k → k ≤ i + y i → o k < 9)) ∧ (∀ post : Int32 → Prop, post r → wpX_mayLeaveOut post (nI n, pl, ct, ol, rd, wr, sr, tk, fl, oc, fx, fy, fz, ce, sv, fr, rg, ls, ll) (nI i)) ∧ (∀ post : Int32 → Prop, post r → wpY_skipFits post (nI n, oc, ax, fy, az, yc, yr, yl) (nI i)) := by
  have ii : vp_in (nI i) 30 := vp_in_nI (by omega) (by omega)
  have ci : (nI i).toNatClampNeg = i := pf_cl (by omega)
  have y6 := (hP i hi).2.2.2.2.2.2.2.2.2 h8
  have ey : nI i + fy (nI i).toNatClampNeg = nI (i + y i) := by
    rw [ci, (hP i hi).2.2.2.2.2.1 (by omega) (by omega), nI_add]
  by_cases hl : i + y i < n
  · obtain ⟨r, ⟨hr, hX, hY⟩ | hbad⟩ := ps_skip (ln := nI n) (pl := pl) (ct := ct) (ol := ol) (rd := rd) (wr := wr) (sr := sr) (tk := tk) (fl := fl) (ce := ce) (sv := sv) (fr := fr) (rg := rg) (ls := ls) (ll := ll) (ax := ax) (az := az) (yc := yc) (yr := yr) (yl := yl) hP hn hi h8 rfl hl 31 (i + 1) (by omega)
    · refine ⟨r, ?_, fun post hp => ?_, fun post hp => ?_⟩
      · rcases hr with hr | ⟨hr, hall⟩
        · exact Or.inl hr
        · exact Or.inr ⟨hr, hl, fun k h1 h2 => hall k (by omega) h2⟩
      · exact ⟨ii, nm_r (e' := nI (i + y i)) ey (br_t (nI_lt hl (by omega)) (nm_r (nI_1 i) ⟨31, hX post hp⟩))⟩
      · refine ⟨ii, ?_⟩
        rw [ey]
        exact br_t (nI_lt hl (by omega)) (nm_r (nI_1 i) ⟨31, hY post hp⟩)
    · omega
  · refine ⟨0, Or.inl rfl, fun post hp => ?_, fun post hp => ?_⟩
    · exact ⟨ii, nm_r (e' := nI (i + y i)) ey (br_f (nI_nlt (by omega) (by omega)) hp)⟩
    · refine ⟨ii, ?_⟩
      rw [ey]
      exact br_f (nI_nlt (by omega) (by omega)) hp
theorem ps_40 {i f : Nat} (hP : px_PG n oc fx fy fz o x y z) (hn : n ≤ 30) (hi : i < n) (d : Nat) (hd : d ≤ 3) (Q : Prop)
    (K : d ≤ 2 → (o i = 8 → i + y i < n ∧ ∀ k, i < k → k ≤ i + y i → o k < 9) → ∃ r : Int32, (r = 0 ∨ (r = 1 ∧ Q)) ∧ (∀ post : Int32 → Prop, post r → wX_sound_4 post (nI n) pl ct ol rd wr sr tk fl oc fx fy fz ce sv fr rg ls ll f (nI d) (nI (i + 1))) ∧ (∀ post : Int32 → Prop, post r → wY_sound_4 post (nI n) oc ax fy az yc yr yl f (nI d) (nI (i + 1)))) :
    ∃ r : Int32, (r = 0 ∨ (r = 1 ∧ Q)) ∧ (∀ post : Int32 → Prop, post r → wX_sound_40 post (wX_sound_4 post (nI n) pl ct ol rd wr sr tk fl oc fx fy fz ce sv fr rg ls ll f) (nI d) (nI i) (nI n) pl ct ol rd wr sr tk fl oc fx fy fz ce sv fr rg ls ll) ∧ (∀ post : Int32 → Prop, post r → wY_sound_40 post (wY_sound_4 post (nI n) oc ax fy az yc yr yl f) (nI d) (nI i) (nI n) oc ax fy az yc yr yl) := by
  have ii : vp_in (nI i) 30 := vp_in_nI (by omega) (by omega)
  have ci : (nI i).toNatClampNeg = i := pf_cl (by omega)
  have hd0 : ¬ nI d < 0 := nI_pos (by omega)
  obtain ⟨g1, g2, -⟩ := hP i hi
  by_cases h2 : d ≤ 2
  · have hd2 : nI d ≤ 2 := nI_le (b := 2) h2 (by omega)
    by_cases h8 : o i = 8
    · obtain ⟨r1, hr1, hX1, hY1⟩ := ps_may (pl := pl) (ct := ct) (ol := ol) (rd := rd) (wr := wr) (sr := sr) (tk := tk) (fl := fl) (ce := ce) (sv := sv) (fr := fr) (rg := rg) (ls := ls) (ll := ll) (ax := ax) (az := az) (yc := yc) (yr := yr) (yl := yl) hP hn hi h8
      have q8 : oc (nI i).toNatClampNeg = 8 := by rw [ci, g1, h8]; rfl
      rcases hr1 with rfl | ⟨rfl, hs⟩
      · refine ⟨0, Or.inl rfl, fun post hp => ?_, fun post hp => ?_⟩
        · exact br_f hd0 (br_t hd2 ⟨ii, br_t q8 (hX1 _ (br_t rfl hp))⟩)
        · exact br_f hd0 (br_t hd2 ⟨ii, br_t q8 (hY1 _ (br_t rfl hp))⟩)
      · obtain ⟨r, hr, hX, hY⟩ := K h2 (fun _ => hs)
        refine ⟨r, hr, fun post hp => ?_, fun post hp => ?_⟩
        · exact br_f hd0 (br_t hd2 ⟨ii, br_t q8 (hX1 _ (br_f (by decide) (nm_r (nI_1 i) (hX post hp))))⟩)
        · exact br_f hd0 (br_t hd2 ⟨ii, br_t q8 (hY1 _ (br_f (by decide) (nm_r (nI_1 i) (hY post hp))))⟩)
    · have q8 : ¬ oc (nI i).toNatClampNeg = 8 := by
        rw [ci, g1]
        exact fun q => h8 ((nI_eq (b := 8) (by omega) (by omega)).mp q)
      obtain ⟨r, hr, hX, hY⟩ := K h2 (fun q => absurd q h8)
      refine ⟨r, hr, fun post hp => ?_, fun post hp => ?_⟩
      · exact br_f hd0 (br_t hd2 ⟨ii, br_f q8 (nm_r (nI_1 i) (hX post hp))⟩)
      · exact br_f hd0 (br_t hd2 ⟨ii, br_f q8 (nm_r (nI_1 i) (hY post hp))⟩)
  · have hd2 : ¬ nI d ≤ 2 := nI_ge (a := 2) (by omega) (by omega)
    exact ⟨0, Or.inl rfl, fun post hp => br_f hd0 (br_f hd2 hp), fun post hp => br_f hd0 (br_f hd2 hp)⟩
theorem ps_4 (hP : px_PG n oc fx fy fz o x y z) (hn : n ≤ 30) : ∀ f i : Nat, i ≤ n → n - i < f →
    (∀ i', i' < i → pm_D o (i' + 1) ≤ 2 ∧ (o i' = 10 → 0 < pm_D o i') ∧ (o i' = 8 → i' + y i' < n ∧ ∀ k, i' < k → k ≤ i' + y i' → o k < 9)) →
    ∃ r : Int32, (r = 0 ∨ (r = 1 ∧ pm_Sd n o y)) ∧ (∀ post : Int32 → Prop, post r → wX_sound_4 post (nI n) pl ct ol rd wr sr tk fl oc fx fy fz ce sv fr rg ls ll f (nI (pm_D o i)) (nI i)) ∧ (∀ post : Int32 → Prop, post r → wY_sound_4 post (nI n) oc ax fy az yc yr yl f (nI (pm_D o i)) (nI i)) := by
  intro f
  induction f with
  | zero => intro i h1 h2; omega
  | succ f ih =>
    intro i h1 h2 hall
    have D2 : pm_D o i ≤ 2 := by
      cases i with
      | zero => exact Nat.zero_le 2
      | succ i => exact (hall i (by omega)).1
    by_cases hin : i = n
    · have hle : nI n ≤ nI i := nI_le (by omega) (by omega)
      by_cases h0 : pm_D o i = 0
      · have q0 : nI (pm_D o i) = 0 := by rw [h0]; rfl
        exact ⟨1, Or.inr ⟨rfl, by rw [← hin]; exact h0, fun i' hi' => hall i' (by omega)⟩, fun post hp => br_t hle (br_t q0 hp), fun post hp => br_t hle (br_t q0 hp)⟩
      · have q0 : ¬ nI (pm_D o i) = 0 := nI_ne0 (by omega) (by omega)
        exact ⟨0, Or.inl rfl, fun post hp => br_t hle (br_f q0 hp), fun post hp => br_t hle (br_f q0 hp)⟩
    · have hi : i < n := by omega
      have hle : ¬ nI n ≤ nI i := nI_ge hi (by omega)
      obtain ⟨g1, g2, -⟩ := hP i hi
      have ii : vp_in (nI i) 30 := vp_in_nI (by omega) (by omega)
      have ci : (nI i).toNatClampNeg = i := pf_cl (by omega)
      have K := ps_40 (f := f) (pl := pl) (ct := ct) (ol := ol) (rd := rd) (wr := wr) (sr := sr) (tk := tk) (fl := fl) (ce := ce) (sv := sv) (fr := fr) (rg := rg) (ls := ls) (ll := ll) (ax := ax) (az := az) (yc := yc) (yr := yr) (yl := yl) hP hn hi
      by_cases h10 : o i = 10
      · have q9 : ¬ oc (nI i).toNatClampNeg = 9 := by rw [ci, g1, h10]; decide
        have q10 : oc (nI i).toNatClampNeg = 10 := by rw [ci, g1, h10]; rfl
        by_cases h0 : pm_D o i = 0
        · rw [h0]
          exact ⟨0, Or.inl rfl, fun post hp => br_f hle ⟨ii, br_f q9 ⟨ii, br_t q10 (nm_r (e' := -1) (by decide) (br_t (by decide) hp))⟩⟩, fun post hp => br_f hle ⟨ii, br_f q9 ⟨ii, br_t q10 (nm_r (e' := -1) (by decide) (br_t (by decide) hp))⟩⟩⟩
        · obtain ⟨d, hd⟩ : ∃ d, pm_D o i = d + 1 := ⟨pm_D o i - 1, by omega⟩
          have hD : pm_D o (i + 1) = d := by rw [pm_D10 h10, hd]; rfl
          obtain ⟨r, hr, hX, hY⟩ := K d (by omega) (pm_Sd n o y) (fun d2 hs => by
            have := ih (i + 1) (by omega) (by omega) (fun i' hi' => by
              by_cases e : i' = i
              · rw [e]; exact ⟨by omega, fun _ => by omega, hs⟩
              · exact hall i' (by omega))
            rw [hD] at this
            exact this)
          rw [hd]
          exact ⟨r, hr, fun post hp => br_f hle ⟨ii, br_f q9 ⟨ii, br_t q10 (nm_r (pk_m1 d) (hX post hp))⟩⟩, fun post hp => br_f hle ⟨ii, br_f q9 ⟨ii, br_t q10 (nm_r (pk_m1 d) (hY post hp))⟩⟩⟩
      · have q10 : ¬ oc (nI i).toNatClampNeg = 10 := by
          rw [ci, g1]
          exact fun q => h10 ((nI_eq (b := 10) (by omega) (by omega)).mp q)
        by_cases h9 : o i = 9
        · have q9 : oc (nI i).toNatClampNeg = 9 := by rw [ci, g1, h9]; rfl
          obtain ⟨r, hr, hX, hY⟩ := K (pm_D o i + 1) (by omega) (pm_Sd n o y) (fun d2 hs => by
            have := ih (i + 1) (by omega) (by omega) (fun i' hi' => by
              by_cases e : i' = i
              · rw [e]; exact ⟨by rw [pm_D9 h9]; exact d2, fun q => absurd q h10, hs⟩
              · exact hall i' (by omega))
            rw [pm_D9 h9] at this
            exact this)
          exact ⟨r, hr, fun post hp => br_f hle ⟨ii, br_t q9 (nm_r (nI_1 _) ⟨ii, br_f q10 (hX post hp)⟩)⟩, fun post hp => br_f hle ⟨ii, br_t q9 (nm_r (nI_1 _) ⟨ii, br_f q10 (hY post hp)⟩)⟩⟩
        · have q9 : ¬ oc (nI i).toNatClampNeg = 9 := by
            rw [ci, g1]
            exact fun q => h9 ((nI_eq (b := 9) (by omega) (by omega)).mp q)
          have hD : pm_D o (i + 1) = pm_D o i := pm_Dn (by omega)
          obtain ⟨r, hr, hX, hY⟩ := K (pm_D o i) (by omega) (pm_Sd n o y) (fun d2 hs => by
            have := ih (i + 1) (by omega) (by omega) (fun i' hi' => by
              by_cases e : i' = i
              · rw [e]; exact ⟨by rw [hD]; exact d2, fun q => absurd q h10, hs⟩
              · exact hall i' (by omega))
            rw [hD] at this
            exact this)
          exact ⟨r, hr, fun post hp => br_f hle ⟨ii, br_f q9 ⟨ii, br_f q10 (hX post hp)⟩⟩, fun post hp => br_f hle ⟨ii, br_f q9 ⟨ii, br_f q10 (hY post hp)⟩⟩⟩
theorem ps_sound (hP : px_PG n oc fx fy fz o x y z) (hn : n ≤ 30) :
    ∃ r : Int32, (r = 0 ∨ (r = 1 ∧ pm_Sd n o y)) ∧ (∀ post : Int32 → Prop, post r → wpX_sound post (nI n, pl, ct, ol, rd, wr, sr, tk, fl, oc, fx, fy, fz, ce, sv, fr, rg, ls, ll)) ∧ (∀ post : Int32 → Prop, post r → wpY_sound post (nI n, oc, ax, fy, az, yc, yr, yl)) := by
  obtain ⟨r, hr, hX, hY⟩ := ps_4 (pl := pl) (ct := ct) (ol := ol) (rd := rd) (wr := wr) (sr := sr) (tk := tk) (fl := fl) (ce := ce) (sv := sv) (fr := fr) (rg := rg) (ls := ls) (ll := ll) (ax := ax) (az := az) (yc := yc) (yr := yr) (yl := yl) hP hn 31 0 (by omega) (by omega) (fun i' hi' => absurd hi' (by omega))
  exact ⟨r, hr, fun post hp => ⟨31, hX post hp⟩, fun post hp => ⟨31, hY post hp⟩⟩
end
end
section
/-! ===== the reference's run along the trace ===== -/
/-- the first i entries are 0 -/
def pz_z (f : Nat → Int32) (i : Nat) : Nat → Int32 := fun r => if r < i then 0 else f r
theorem pz_0 (f : Nat → Int32) : pz_z f 0 = f := funext (fun r => if_neg (by omega))
theorem pz_1 {f : Nat → Int32} {i r : Nat} (h : r < i) : pz_z f i r = 0 := if_pos h
theorem pz_s (f : Nat → Int32) {i : Nat} (hi : i < 100) : upd (pz_z f i) (nI i).toNatClampNeg 0 = pz_z f (i + 1) := by
  rw [pf_cl (by omega)]
  funext r
  by_cases e : r = i
  · rw [e, pk_us, pz_1 (by omega)]
  · rw [pk_un e]
    unfold pz_z
    by_cases e2 : r < i
    · rw [if_pos e2, if_pos (by omega)]
    · rw [if_neg e2, if_neg (by omega)]
section
variable {ln : Int32} {oc ax fy az yc yr yl : Nat → Int32} {n : Nat} {o x y z : Nat → Nat}
theorem py_op4 {post : Int32 → Prop} {p d s : Nat} (hP : px_PG n oc ax fy az o x y z) (hn : n ≤ 30) (hD2 : ∀ i, i ≤ n → pm_D o i ≤ 2) (hp : p < n) (hs : s < p) (hs9 : o s = 9) (hsd : pm_D o s = d) (hr : ∀ i, s < i → i ≤ p → d + 1 ≤ pm_D o i) (h : post (nI s)) :
    ∀ f c : Nat, s + c ≤ p → c < f → wY_openerOf_4 post ln oc ax fy az yc yr yl f (nI (pm_D o (s + c + 1) - d)) (nI (s + c)) := by
  intro f
  induction f with
  | zero => intro c _ h2; omega
  | succ f ih =>
    intro c h1 h2
    obtain ⟨g1, g2, -⟩ := hP (s + c) (by omega)
    have ik : vp_in (nI (s + c)) 30 := vp_in_nI (by omega) (by omega)
    have ck : (nI (s + c)).toNatClampNeg = s + c := pf_cl (by omega)
    have k2 := hD2 (s + c) (by omega)
    have nx : 0 < c → wY_openerOf_36 post (wY_openerOf_4 post ln oc ax fy az yc yr yl f) (nI (pm_D o (s + c) - d)) (nI (s + c)) ln oc ax fy az yc yr yl := by
      intro h0
      obtain ⟨c', rfl⟩ : ∃ c', c = c' + 1 := ⟨c - 1, by omega⟩
      have hr' := hr (s + (c' + 1)) (by omega) h1
      exact br_f (nI_ne0 (by omega) (by omega)) (nm_r (pk_m1 (s + c')) (ih c' (by omega) (by omega)))
    refine br_f (nI_pos (by omega)) ⟨ik, ?_⟩
    rw [ck, g1]
    refine pk_eq (o (s + c)) 10 (fun e => ?_) (fun e => ?_)
    · have c0 : 0 < c := by
        rcases Nat.eq_zero_or_pos c with q | q
        · rw [q, Nat.add_zero, hs9] at e; omega
        · exact q
      have hr' := hr (s + c) (by omega) h1
      refine nm_r (e' := nI (pm_D o (s + c) - d)) ?_ ⟨ik, ?_⟩
      · rw [nI_1, pm_D10 e, show pm_D o (s + c) - 1 - d + 1 = pm_D o (s + c) - d from by omega]
      · rw [ck, g1]
        exact pk_eq (o (s + c)) 9 (fun q => absurd q (by omega)) (fun _ => nx c0)
    · refine ⟨ik, ?_⟩
      rw [ck, g1]
      refine pk_eq (o (s + c)) 9 (fun e9 => ?_) (fun e9 => ?_)
      · rcases Nat.eq_zero_or_pos c with q | q
        · subst q
          refine nm_r (e' := 0) ?_ (br_t rfl h)
          rw [Nat.add_zero, pm_D9 hs9, hsd, show d + 1 - d = 0 + 1 from by omega, pk_m1]
          rfl
        · have hr' := hr (s + c) (by omega) h1
          refine nm_r (e' := nI (pm_D o (s + c) - d)) ?_ (nx q)
          rw [pm_D9 e9, show pm_D o (s + c) + 1 - d = (pm_D o (s + c) - d) + 1 from by omega, pk_m1]
      · have c0 : 0 < c := by
          rcases Nat.eq_zero_or_pos c with q | q
          · rw [q, Nat.add_zero] at e9; exact absurd hs9 e9
          · exact q
        rw [pm_Dn (by omega)]
        exact nx c0
theorem py_open {post : Int32 → Prop} {p d s : Nat} (hP : px_PG n oc ax fy az o x y z) (hn : n ≤ 30) (hD2 : ∀ i, i ≤ n → pm_D o i ≤ 2) (hp : p < n) (h10 : o p = 10) (hd : pm_D o p = d + 1) (hs : s < p) (hs9 : o s = 9) (hsd : pm_D o s = d) (hr : ∀ i, s < i → i ≤ p → d + 1 ≤ pm_D o i) (h : post (nI s)) :
    wpY_openerOf post (ln, oc, ax, fy, az, yc, yr, yl) (nI p) := by
  have K := py_op4 (ln := ln) (yc := yc) (yr := yr) (yl := yl) hP hn hD2 hp hs hs9 hsd hr h 31 (p - s) (by omega) (by omega)
  rw [show s + (p - s) = p from by omega, pm_D10 h10, hd, show d + 1 - 1 - d = 0 from by omega] at K
  exact ⟨31, K⟩
section
variable {post : Int32 → SY → Prop} {p : Nat} {x2 x3 : Int32}
theorem py_282 (ip : vp_in (nI p) 30) (hq : ∀ c, c ≤ 10 → o p ≠ c → ¬ oc (nI p).toNatClampNeg = nI c) (ho : o p < 10) (h : post (nI (p + 1)) (ln, oc, ax, fy, az, yc, yr, yl)) : wY_step_282 post (nI p) ln oc ax fy az yc yr yl := by
  refine ⟨ip, br_f (hq 10 (by omega) (by omega)) ?_⟩
  rw [nI_1]
  exact h
theorem py_264 (ip : vp_in (nI p) 30) (hq : ∀ c, c ≤ 10 → o p ≠ c → ¬ oc (nI p).toNatClampNeg = nI c) (ho : o p < 9) (h : post (nI (p + 1)) (ln, oc, ax, fy, az, yc, yr, yl)) : wY_step_264 post (nI p) x2 ln oc ax fy az yc yr yl :=
  ⟨ip, br_f (hq 9 (by omega) (by omega)) (py_282 ip hq (by omega) h)⟩
theorem py_238 (ip : vp_in (nI p) 30) (hq : ∀ c, c ≤ 10 → o p ≠ c → ¬ oc (nI p).toNatClampNeg = nI c) (ho : o p < 8) (h : post (nI (p + 1)) (ln, oc, ax, fy, az, yc, yr, yl)) : wY_step_238 post (nI p) x2 x3 ln oc ax fy az yc yr yl :=
  ⟨ip, br_f (hq 8 (by omega) (by omega)) (py_264 ip hq (by omega) h)⟩
theorem py_207 (ip : vp_in (nI p) 30) (hq : ∀ c, c ≤ 10 → o p ≠ c → ¬ oc (nI p).toNatClampNeg = nI c) (ho : o p < 7) (h : post (nI (p + 1)) (ln, oc, ax, fy, az, yc, yr, yl)) : wY_step_207 post (nI p) x2 x3 ln oc ax fy az yc yr yl :=
  ⟨ip, br_f (hq 7 (by omega) (by omega)) (py_238 ip hq (by omega) h)⟩
theorem py_176 (ip : vp_in (nI p) 30) (hq : ∀ c, c ≤ 10 → o p ≠ c → ¬ oc (nI p).toNatClampNeg = nI c) (ho : o p < 6) (h : post (nI (p + 1)) (ln, oc, ax, fy, az, yc, yr, yl)) : wY_step_176 post (nI p) x2 x3 ln oc ax fy az yc yr yl :=
  ⟨ip, br_f (hq 6 (by omega) (by omega)) (py_207 ip hq (by omega) h)⟩
theorem py_154 (ip : vp_in (nI p) 30) (hq : ∀ c, c ≤ 10 → o p ≠ c → ¬ oc (nI p).toNatClampNeg = nI c) (ho : o p < 5) (h : post (nI (p + 1)) (ln, oc, ax, fy, az, yc, yr, yl)) : wY_step_154 post (nI p) x2 x3 ln oc ax fy az yc yr yl :=
  ⟨ip, br_f (hq 5 (by omega) (by omega)) (py_176 ip hq (by omega) h)⟩
theorem py_132 (ip : vp_in (nI p) 30) (hq : ∀ c, c ≤ 10 → o p ≠ c → ¬ oc (nI p).toNatClampNeg = nI c) (ho : o p < 4) (h : post (nI (p + 1)) (ln, oc, ax, fy, az, yc, yr, yl)) : wY_step_132 post (nI p) x2 x3 ln oc ax fy az yc yr yl :=
  ⟨ip, br_f (hq 4 (by omega) (by omega)) (py_154 ip hq (by omega) h)⟩
theorem py_98 (ip : vp_in (nI p) 30) (hq : ∀ c, c ≤ 10 → o p ≠ c → ¬ oc (nI p).toNatClampNeg = nI c) (ho : o p < 3) (h : post (nI (p + 1)) (ln, oc, ax, fy, az, yc, yr, yl)) : wY_step_98 post (nI p) x2 x3 ln oc ax fy az yc yr yl :=
  ⟨ip, br_f (hq 3 (by omega) (by omega)) (py_132 ip hq (by omega) h)⟩
theorem py_64 (ip : vp_in (nI p) 30) (hq : ∀ c, c ≤ 10 → o p ≠ c → ¬ oc (nI p).toNatClampNeg = nI c) (ho : o p < 2) (h : post (nI (p + 1)) (ln, oc, ax, fy, az, yc, yr, yl)) : wY_step_64 post (nI p) x2 x3 ln oc ax fy az yc yr yl :=
  ⟨ip, br_f (hq 2 (by omega) (by omega)) (py_98 ip hq (by omega) h)⟩
theorem py_30 (ip : vp_in (nI p) 30) (hq : ∀ c, c ≤ 10 → o p ≠ c → ¬ oc (nI p).toNatClampNeg = nI c) (ho : o p < 1) (h : post (nI (p + 1)) (ln, oc, ax, fy, az, yc, yr, yl)) : wY_step_30 post (nI p) x2 x3 ln oc ax fy az yc yr yl :=
  ⟨ip, br_f (hq 1 (by omega) (by omega)) (py_64 ip hq (by omega) h)⟩
end
theorem py_step {post : Int32 → SY → Prop} {m : PM} (hP : px_PG n oc ax fy az o x y z) (hn : n ≤ 30) (hS : pm_Sd n o y) (hI : pm_Inv n o m) (hp : pm_p m < n)
    (h : post (nI (pm_p (pm_st o x y z fy m))) (ln, oc, ax, fy, az, pm_c (pm_st o x y z fy m), pm_r (pm_st o x y z fy m), pm_f (pm_st o x y z fy m))) :
    wpY_step post (ln, oc, ax, fy, az, pm_c m, pm_r m, pm_f m) (nI (pm_p m)) := by
  obtain ⟨p, O, S, L, R, C, F⟩ := m
  have hp' : p < n := hp
  show wpY_step post (ln, oc, ax, fy, az, C, R, F) (nI p)
  obtain ⟨g1, g2, g3, g4, g5, g6, g7, g8, g9, g10⟩ := hP p hp'
  have hI' : pm_Iv n o p O S L F := hI
  obtain ⟨-, hO, hk⟩ := hI'
  have ip : vp_in (nI p) 30 := vp_in_nI (by omega) (by omega)
  have cp : (nI p).toNatClampNeg = p := pf_cl (by omega)
  have hq : ∀ c, c ≤ 10 → o p ≠ c → ¬ oc (nI p).toNatClampNeg = nI c := fun c hc hne => by
    rw [cp, g1]
    exact fun q => hne ((nI_eq (by omega) (by omega)).mp q)
  have he : ∀ c, o p = c → oc (nI p).toNatClampNeg = nI c := fun c hc => by rw [cp, g1, hc]
  refine ⟨ip, nm_r (e' := ax p) (by rw [cp]) ⟨ip, nm_r (e' := fy p) (by rw [cp]) ⟨ip, ?_⟩⟩⟩
  by_cases h8 : o p ≤ 8
  · have hx := g4 h8
    have ex := g3 (by omega)
    have ix : vp_in (nI (x p)) 4 := vp_in_nI hx (by omega)
    have cx : (nI (x p)).toNatClampNeg = x p := pf_cl (by omega)
    rw [ex]
    by_cases e0 : o p = 0
    · rw [pm_st0 e0] at h
      refine br_t (he 0 e0) ⟨ix, nm_r (e' := upd R (x p) (fy p)) (by rw [cx]) (py_30 ip hq (by omega) h)⟩
    refine br_f (hq 0 (by omega) e0) ?_
    have ey := g6 (by omega) h8
    rw [ey]
    by_cases h3 : o p ≤ 3
    · obtain ⟨hy, hz, ez⟩ := g7 (by omega) h3
      have iy : vp_in (nI (y p)) 4 := vp_in_nI hy (by omega)
      have iz : vp_in (nI (z p)) 4 := vp_in_nI hz (by omega)
      have cy : (nI (y p)).toNatClampNeg = y p := pf_cl (by omega)
      have cz : (nI (z p)).toNatClampNeg = z p := pf_cl (by omega)
      have iz' : vp_in (az (nI p).toNatClampNeg) 4 := by rw [cp, ez]; exact iz
      have cz' : (az (nI p).toNatClampNeg).toNatClampNeg = z p := by rw [cp, ez, cz]
      by_cases e1 : o p = 1
      · rw [pm_st1 e1] at h
        exact ⟨ip, br_t (he 1 e1) ⟨iy, ip, iz', ix, nm_r (e' := upd R (x p) (R (y p) + R (z p))) (by rw [cx, cy, cz']) (py_64 ip hq (by omega) h)⟩⟩
      refine ⟨ip, br_f (hq 1 (by omega) e1) ?_⟩
      by_cases e2 : o p = 2
      · rw [pm_st2 e2] at h
        exact ⟨ip, br_t (he 2 e2) ⟨iy, ip, iz', ix, nm_r (e' := upd R (x p) (R (y p) - R (z p))) (by rw [cx, cy, cz']) (py_98 ip hq (by omega) h)⟩⟩
      refine ⟨ip, br_f (hq 2 (by omega) e2) ?_⟩
      have e3 : o p = 3 := by omega
      rw [pm_st3 e3] at h
      exact ⟨ip, br_t (he 3 e3) ⟨iy, ip, iz', ix, nm_r (e' := upd R (x p) (R (y p) * R (z p))) (by rw [cx, cy, cz']) (py_132 ip hq (by omega) h)⟩⟩
    · refine ⟨ip, br_f (hq 1 (by omega) (by omega)) ⟨ip, br_f (hq 2 (by omega) (by omega)) ⟨ip, br_f (hq 3 (by omega) (by omega)) ?_⟩⟩⟩
      by_cases e4 : o p = 4
      · have hy := g8 (by omega) (by omega)
        have cy : (nI (y p)).toNatClampNeg = y p := pf_cl (by omega)
        have hc : pm_cl o y R p = y p := if_pos (by omega)
        rw [pm_st46 (Or.inl e4), hc] at h
        exact ⟨ip, br_t (he 4 e4) ⟨vp_in_nI hy (by omega), ix, nm_r (e' := upd R (x p) (C (y p))) (by rw [cx, cy]) (py_154 ip hq (by omega) h)⟩⟩
      refine ⟨ip, br_f (hq 4 (by omega) e4) ?_⟩
      by_cases e5 : o p = 5
      · have hy := g8 (by omega) (by omega)
        have cy : (nI (y p)).toNatClampNeg = y p := pf_cl (by omega)
        have hc : pm_cl o y R p = y p := if_pos (by omega)
        rw [pm_st57 (Or.inl e5), hc] at h
        exact ⟨ip, br_t (he 5 e5) ⟨ix, vp_in_nI hy (by omega), nm_r (e' := upd C (y p) (R (x p))) (by rw [cx, cy]) (py_176 ip hq (by omega) h)⟩⟩
      refine ⟨ip, br_f (hq 5 (by omega) e5) ?_⟩
      by_cases e6 : o p = 6
      · have hy := g9 (by omega) (by omega)
        have cy : (nI (y p)).toNatClampNeg = y p := pf_cl (by omega)
        have iy : vp_in (nI (y p)) 4 := vp_in_nI hy (by omega)
        have hc : pm_cl o y R p = (R (y p) &&& 7).toNatClampNeg := if_neg (by omega)
        have i7 : vp_in (R (nI (y p)).toNatClampNeg &&& 7) 12 := by
          rw [cy, (pf_7 (R (y p))).2]
          exact vp_in_nI (by have := (pf_7 (R (y p))).1; omega) (by omega)
        rw [pm_st46 (Or.inr e6), hc] at h
        exact ⟨ip, br_t (he 6 e6) ⟨iy, i7, ix, nm_r (e' := upd R (x p) (C (R (y p) &&& 7).toNatClampNeg)) (by rw [cx, cy]) (py_207 ip hq (by omega) h)⟩⟩
      refine ⟨ip, br_f (hq 6 (by omega) e6) ?_⟩
      by_cases e7 : o p = 7
      · have hy := g9 (by omega) (by omega)
        have cy : (nI (y p)).toNatClampNeg = y p := pf_cl (by omega)
        have iy : vp_in (nI (y p)) 4 := vp_in_nI hy (by omega)
        have hc : pm_cl o y R p = (R (y p) &&& 7).toNatClampNeg := if_neg (by omega)
        have i7 : vp_in (R (nI (y p)).toNatClampNeg &&& 7) 12 := by
          rw [cy, (pf_7 (R (y p))).2]
          exact vp_in_nI (by have := (pf_7 (R (y p))).1; omega) (by omega)
        rw [pm_st57 (Or.inr e7), hc] at h
        exact ⟨ip, br_t (he 7 e7) ⟨iy, ix, i7, nm_r (e' := upd C (R (y p) &&& 7).toNatClampNeg (R (x p))) (by rw [cx, cy]) (py_238 ip hq (by omega) h)⟩⟩
      refine ⟨ip, br_f (hq 7 (by omega) e7) ?_⟩
      have e8 : o p = 8 := by omega
      refine ⟨ip, br_t (he 8 e8) ⟨ix, ?_⟩⟩
      rw [cx]
      refine br_c (fun b => ?_) (fun b => ?_)
      · rw [pm_st8p e8 b] at h
        exact py_264 ip hq (by omega) h
      · rw [pm_st8n e8 b] at h
        rw [nI_add, nI_1]
        exact h
  · refine br_f (hq 0 (by omega) (by omega)) ⟨ip, br_f (hq 1 (by omega) (by omega)) ⟨ip, br_f (hq 2 (by omega) (by omega)) ⟨ip, br_f (hq 3 (by omega) (by omega)) ⟨ip, br_f (hq 4 (by omega) (by omega)) ⟨ip, br_f (hq 5 (by omega) (by omega)) ⟨ip, br_f (hq 6 (by omega) (by omega)) ⟨ip, br_f (hq 7 (by omega) (by omega)) ⟨ip, br_f (hq 8 (by omega) (by omega)) ?_⟩⟩⟩⟩⟩⟩⟩⟩
    by_cases e9 : o p = 9
    · rw [pm_st9 e9] at h
      exact ⟨ip, br_t (he 9 e9) ⟨ip, nm_r (e' := upd F p (nI (x p))) (by rw [cp, g3 (by omega)]) (py_282 ip hq (by omega) h)⟩⟩
    · have e10 : o p = 10 := by omega
      have O0 : 0 < O := by rw [hO]; exact (hS.2 p hp').2.1 e10
      obtain ⟨d, rfl⟩ : ∃ d, O = d + 1 := ⟨O - 1, by omega⟩
      obtain ⟨b1, b2, b3, b4, b5, b6, b7⟩ := hk d (by omega)
      refine ⟨ip, br_f (hq 9 (by omega) e9) ⟨ip, br_t (he 10 e10) (py_open hP hn (fun i hi => pm_D2 hS i hi) hp' e10 hO.symm b1 b2 b3 b4 ?_)⟩⟩
      have is : vp_in (nI (S d)) 30 := vp_in_nI (by omega) (by omega)
      have cs : (nI (S d)).toNatClampNeg = S d := pf_cl (by omega)
      refine ⟨is, is, nm_r (e' := upd F (S d) (nI (L d - 1))) (by rw [cs, b7, show nI (L d) - 1 = nI (L d - 1) from pk_sub (b := 1) b5]) ⟨is, ?_⟩⟩
      rw [cs, pk_us]
      refine pk_le (L d - 1) 0 (fun q => ?_) (fun q => ?_)
      · rw [pm_st10x e10 (by omega)] at h
        rw [nI_1]
        exact h
      · rw [pm_st10b e10 (by omega)] at h
        rw [nI_1]
        exact h
theorem py_37 {post : Int32 → SY → Prop} {N : Nat} {tr : Nat → PM} (hP : px_PG n oc ax fy az o x y z) (hn : n ≤ 30) (hS : pm_Sd n o y) (hN : N ≤ 1080) (hI : ∀ k, k ≤ N → pm_Inv n o (tr k)) (hp : ∀ k, k < N → pm_p (tr k) < n) (hpN : pm_p (tr N) = n) (ht : ∀ k, tr (k + 1) = pm_st o x y z fy (tr k))
    (h : post (nI N) (nI n, oc, ax, fy, az, pm_c (tr N), pm_r (tr N), pm_f (tr N))) :
    ∀ f k : Nat, k ≤ N → N - k < f → wY_run_37 post f (nI (pm_p (tr k))) (nI k) (nI k) (nI n) oc ax fy az (pm_c (tr k)) (pm_r (tr k)) (pm_f (tr k)) := by
  intro f
  induction f with
  | zero => intro k _ h2; omega
  | succ f ih =>
    intro k h1 h2
    by_cases kN : k = N
    · rw [kN]
      exact br_c (fun _ => h) (fun _ => br_t (by rw [hpN]; exact nI_le (Nat.le_refl n) (by omega)) h)
    · have hpk := hp k (by omega)
      refine br_f (nI_ge (b := 1080) (by omega) (by omega)) (br_f (nI_ge hpk (by omega)) (py_step hP hn hS (hI k h1) hpk ?_))
      have K := ih (k + 1) (by omega) (by omega)
      rw [ht k] at K
      exact nm_r (nI_1 k) (nm_r (nI_1 k) K)
theorem py_12 {post : Int32 → SY → Prop} {yr0 : Nat → Int32} (h : ∃ n37, wY_run_37 post n37 0 0 0 ln oc ax fy az yc (pz_z yr0 4) yl) : ∀ (f i : Nat), i ≤ 4 → 4 - i < f → wY_run_12 post ln f (nI i) oc ax fy az yc (pz_z yr0 i) yl := by
  intro f
  induction f with
  | zero => intro i _ h2; omega
  | succ f ih =>
    intro i h1 h2
    refine pk_le 4 i (fun hi => ?_) (fun hi => ?_)
    · have : i = 4 := by omega
      rw [this]
      exact h
    · exact ⟨vp_in_nI hi (by omega), nm_r (pz_s yr0 (by omega)) (nm_r (nI_1 i) (ih (i + 1) (by omega) (by omega)))⟩
theorem py_run {post : Int32 → SY → Prop} {v1 : Int32} {N : Nat} {tr : Nat → PM} (hP : px_PG n oc ax fy az o x y z) (hn : n ≤ 30) (hS : pm_Sd n o y) (hN : N ≤ 1080) (hI : ∀ k, k ≤ N → pm_Inv n o (tr k)) (hp : ∀ k, k < N → pm_p (tr k) < n) (hpN : pm_p (tr N) = n) (ht : ∀ k, tr (k + 1) = pm_st o x y z fy (tr k))
    (h0 : tr 0 = (0, 0, (fun _ => 0), (fun _ => 0), pz_z yr 4, yc, yl))
    (hsd : ∀ post' : Int32 → Prop, post' 1 → wpY_sound post' (nI n, oc, ax, fy, az, yc, yr, yl))
    (h : post (nI N) (nI n, oc, ax, fy, az, pm_c (tr N), pm_r (tr N), pm_f (tr N))) : wpY_run post (nI n, oc, ax, fy, az, yc, yr, yl) v1 := by
  unfold wpY_run
  refine hsd _ (br_f (by decide) ⟨5, ?_⟩)
  have K := py_37 (post := post) hP hn hS hN hI hp hpN ht h (N + 1) 0 (by omega) (by omega)
  rw [h0] at K
  have K2 := py_12 (post := post) (ln := nI n) (oc := oc) (ax := ax) (fy := fy) (az := az) (yc := yc) (yl := yl) (yr0 := yr) ⟨N + 1, K⟩ 5 0 (by omega) (by omega)
  rw [pz_0] at K2
  exact K2
end
end
section
/-! ===== the relation; emit on both sides ===== -/
def i_Rel (_ : Nat) (u : SX) (v : SY) : Prop :=
  match u, v with
  | (ln, pl, ct, ol, rd, wr, sr, tk, fl, oc, fx, fy, fz, ce, sv, fr, rg, ls, ll), (ln', oc', ax, fy', az, yc, yr, yl) => ∃ n : Nat, ln = nI n ∧ ln' = nI n ∧ n ≤ 30 ∧ oc' = oc ∧ fy' = fy ∧ yc = ce ∧ (∀ r, r < 4 → fr r = yr r) ∧ ∃ o x y z : Nat → Nat, px_PG n oc fx fy fz o x y z ∧ px_PG n oc ax fy az o x y z
section
variable {ln pl ct ol rd wr sr tk fl : Int32} {oc fx fy fz ce sv fr rg ls ll ax az yc yr yl : Nat → Int32} {n : Nat} {o x y z : Nat → Nat}
theorem ir_mk {k : Nat} (hn : n ≤ 30) (hr : ∀ r, r < 4 → fr r = yr r) (hP : px_PG n oc fx fy fz o x y z) (hP' : px_PG n oc ax fy az o x y z) : i_Rel k (nI n, pl, ct, ol, rd, wr, sr, tk, fl, oc, fx, fy, fz, ce, sv, fr, rg, ls, ll) (nI n, oc, ax, fy, az, ce, yr, yl) :=
  ⟨n, rfl, rfl, hn, rfl, rfl, rfl, hr, o, x, y, z, hP, hP'⟩
theorem ir_el {k : Nat} {u : SX} {v : SY} {P : SX → SY → Prop} (I : i_Rel k u v)
    (h : ∀ (n : Nat) (pl ct ol rd wr sr tk fl : Int32) (oc fx fy fz ce sv fr rg ls ll ax az yr yl : Nat → Int32) (o x y z : Nat → Nat), n ≤ 30 → (∀ r, r < 4 → fr r = yr r) → px_PG n oc fx fy fz o x y z → px_PG n oc ax fy az o x y z → P (nI n, pl, ct, ol, rd, wr, sr, tk, fl, oc, fx, fy, fz, ce, sv, fr, rg, ls, ll) (nI n, oc, ax, fy, az, ce, yr, yl)) : P u v := by
  obtain ⟨ln, pl, ct, ol, rd, wr, sr, tk, fl, oc, fx, fy, fz, ce, sv, fr, rg, ls, ll⟩ := u
  obtain ⟨ln', oc', ax, fy', az, yc, yr, yl⟩ := v
  obtain ⟨n, rfl, rfl, hn, rfl, rfl, rfl, hr, o, x, y, z, hP, hP'⟩ := I
  exact h n _ _ _ _ _ _ _ _ _ _ _ _ _ _ _ _ _ _ _ _ _ _ o x y z hn hr hP hP'
/-- what emit asks of an instruction -/
def pe_F (a : Nat) (c1 c2 c3 : Int32) (x y z : Nat) : Prop :=
  a ≤ 10 ∧ (a ≤ 9 → c1 = nI x) ∧ (a ≤ 8 → x < 4) ∧ (a = 9 → 1 ≤ x ∧ x ≤ 6) ∧ (1 ≤ a → a ≤ 8 → c2 = nI y) ∧ (1 ≤ a → a ≤ 3 → y < 4 ∧ z < 4 ∧ c3 = nI z) ∧ (4 ≤ a → a ≤ 5 → y < 12) ∧ (6 ≤ a → a ≤ 7 → y < 4) ∧ (a = 8 → 1 ≤ y ∧ y ≤ 6)
theorem pe_PG {a x' y' z' : Nat} {c1 c2 c3 : Int32} (hP : px_PG n oc fx fy fz o x y z) (h : pe_F a c1 c2 c3 x' y' z') :
    px_PG (n + 1) (upd oc n (nI a)) (upd fx n c1) (upd fy n c2) (upd fz n c3) (pm_up o n a) (pm_up x n x') (pm_up y n y') (pm_up z n z') := by
  intro i hi
  by_cases e : i = n
  · rw [e]
    simp only [pk_us, pm_us]
    exact ⟨trivial, h⟩
  · simp only [pk_un e, pm_un e]
    exact hP i (by omega)
theorem pe_b : ∀ a, a < 16 → (nI a).toInt8.toInt32 = nI a := by decide +kernel
theorem pe_v {a : Nat} (h : a < 16) : vp_nar .byte (nI a).toInt8.toInt32 = nI a := by rw [pk_vb, pe_b a h]
theorem pe_B {a x' y' z' : Nat} {c1 c2 c3 : Int32} (h : pe_F a c1 c2 c3 x' y' z') : pe_F a (vp_nar .byte c1.toInt8.toInt32) c2 (vp_nar .byte c3.toInt8.toInt32) x' y' z' := by
  obtain ⟨h1, h2, h3, h4, h5, h6, h7⟩ := h
  refine ⟨h1, fun q => ?_, h3, h4, h5, fun q1 q2 => ⟨(h6 q1 q2).1, (h6 q1 q2).2.1, ?_⟩, h7⟩
  · have : x' < 16 := by
      by_cases q8 : a ≤ 8
      · have := h3 q8; omega
      · have := h4 (by omega); omega
    rw [h2 q, pe_v this]
  · have := (h6 q1 q2).2.1
    rw [(h6 q1 q2).2.2, pe_v (by omega)]
theorem pe_R (lo hi : Nat) (hh : hi < 1000) (hl : lo ≤ hi) (p : Int32) : ∃ r : Int32, (r = 0 ∨ (r = 1 ∧ ∃ w, lo ≤ w ∧ w ≤ hi ∧ p = nI w)) ∧ ∀ post : Int32 → Prop, post r → ((p < nI lo → post 0) ∧ (¬ p < nI lo → ((nI hi < p → post 0) ∧ (¬ nI hi < p → post 1)))) := by
  by_cases h1 : p < nI lo
  · exact ⟨0, Or.inl rfl, fun post hp => br_t h1 hp⟩
  · by_cases h2 : nI hi < p
    · exact ⟨0, Or.inl rfl, fun post hp => br_f h1 (br_t h2 hp)⟩
    · refine ⟨1, Or.inr ⟨rfl, ?_⟩, fun post hp => br_f h1 (br_f h2 hp)⟩
      have h0 : ¬ p < 0 := fun q => h1 (Int32.lt_of_lt_of_le q (nI_pos' (by omega)))
      obtain ⟨w, hw, rfl⟩ := nI_of h0
      rw [nI_ltI hw (by omega)] at h1
      rw [nI_ltI (by omega) hw] at h2
      exact ⟨w, by omega, by omega, rfl⟩
theorem pe_fits {a : Nat} (ha : a ≤ 10) (p1 p2 p3 : Int32) : ∃ r : Int32, (r = 0 ∨ (r = 1 ∧ ∃ x y z, pe_F a p1 p2 p3 x y z)) ∧ (∀ post : Int32 → Prop, post r → wpX_fits post (ln, pl, ct, ol, rd, wr, sr, tk, fl, oc, fx, fy, fz, ce, sv, fr, rg, ls, ll) (nI a) p1 p2 p3) ∧ (∀ post : Int32 → Prop, post r → wpY_fits post (ln, oc, ax, fy, az, yc, yr, yl) (nI a) p1 p2 p3) := by
  have a0 : ¬ nI a < 0 := nI_pos (by omega)
  have a10 : nI a ≤ 10 := nI_le (b := 10) ha (by omega)
  have hq : ∀ c, c ≤ 10 → a ≠ c → ¬ nI a = nI c := fun c hc hne q => hne ((nI_eq (by omega) (by omega)).mp q)
  have he : ∀ c, a = c → nI a = nI c := fun c hc => by rw [hc]
  by_cases e10 : a = 10
  · refine ⟨1, Or.inr ⟨rfl, 0, 0, 0, ha, fun q => absurd q (by omega), fun q => absurd q (by omega), fun q => absurd q (by omega), fun _ q => absurd q (by omega), fun _ q => absurd q (by omega), fun _ q => absurd q (by omega), fun _ q => absurd q (by omega), fun q => absurd q (by omega)⟩, fun post hp => ?_, fun post hp => ?_⟩
    · exact br_t (he 10 e10) hp
    · exact br_f a0 (br_t a10 (br_t (he 10 e10) hp))
  by_cases e9 : a = 9
  · obtain ⟨r, hr, h⟩ := pe_R 1 6 (by omega) (by omega) p1
    refine ⟨r, ?_, fun post hp => ?_, fun post hp => ?_⟩
    · rcases hr with hr | ⟨hr, w, w1, w2, w3⟩
      · exact Or.inl hr
      · exact Or.inr ⟨hr, w, 0, 0, ha, fun _ => w3, fun q => absurd q (by omega), fun _ => ⟨w1, w2⟩, fun _ q => absurd q (by omega), fun _ q => absurd q (by omega), fun _ q => absurd q (by omega), fun _ q => absurd q (by omega), fun q => absurd q (by omega)⟩
    · exact br_f (hq 10 (by omega) e10) (br_t (he 9 e9) (h post hp))
    · exact br_f a0 (br_t a10 (br_f (hq 10 (by omega) e10) (br_t (he 9 e9) (h post hp))))
  obtain ⟨r1, hr1, h1⟩ := pe_R 0 3 (by omega) (by omega) p1
  have h1X : ∀ post : Int32 → Prop, post r1 → wpX_isRegister post (ln, pl, ct, ol, rd, wr, sr, tk, fl, oc, fx, fy, fz, ce, sv, fr, rg, ls, ll) p1 := fun post hp => h1 post hp
  have h1Y : ∀ post : Int32 → Prop, post r1 → wpY_in post (ln, oc, ax, fy, az, yc, yr, yl) p1 3 := fun post hp => h1 post hp
  have X0 : ∀ post : Int32 → Prop, (r1 = 0 → post 0) → (r1 = 1 → ((nI a = 0 → post 1) ∧ (¬ nI a = 0 → ((nI a = 4 → wX_fits_57 post p2 ln pl ct ol rd wr sr tk fl oc fx fy fz ce sv fr rg ls ll) ∧ (¬ nI a = 4 → ((nI a = 5 → wX_fits_57 post p2 ln pl ct ol rd wr sr tk fl oc fx fy fz ce sv fr rg ls ll) ∧ (¬ nI a = 5 → ((nI a = 8 → ((p2 < 1 → post 0) ∧ (¬ p2 < 1 → ((6 < p2 → post 0) ∧ (¬ 6 < p2 → post 1))))) ∧ (¬ nI a = 8 → wpX_isRegister (fun r => (r = 0 → post 0) ∧ (¬ r = 0 → ((3 < nI a → post 1) ∧ (¬ 3 < nI a → wpX_isRegister (fun r => (r = 0 → post 0) ∧ (¬ r = 0 → post 1)) (ln, pl, ct, ol, rd, wr, sr, tk, fl, oc, fx, fy, fz, ce, sv, fr, rg, ls, ll) p3)))) (ln, pl, ct, ol, rd, wr, sr, tk, fl, oc, fx, fy, fz, ce, sv, fr, rg, ls, ll) p2))))))))) → wpX_fits post (ln, pl, ct, ol, rd, wr, sr, tk, fl, oc, fx, fy, fz, ce, sv, fr, rg, ls, ll) (nI a) p1 p2 p3 := by
    intro post k0 k1
    refine br_f (hq 10 (by omega) e10) (br_f (hq 9 (by omega) e9) (h1X _ ?_))
    rcases hr1 with rfl | ⟨rfl, -⟩
    · exact br_t rfl (k0 rfl)
    · exact br_f (by decide) (k1 rfl)
  have Y0 : ∀ post : Int32 → Prop, (r1 = 0 → post 0) → (r1 = 1 → ((nI a < 1 → wY_fits_89 post (nI a) p2 ln oc ax fy az yc yr yl) ∧ (¬ nI a < 1 → ((3 < nI a → wY_fits_89 post (nI a) p2 ln oc ax fy az yc yr yl) ∧ (¬ 3 < nI a → wpY_in (fun r => (r = 0 → post 0) ∧ (¬ r = 0 → wpY_in (fun r => (r = 0 → post 0) ∧ (¬ r = 0 → post 1)) (ln, oc, ax, fy, az, yc, yr, yl) p3 3)) (ln, oc, ax, fy, az, yc, yr, yl) p2 3))))) → wpY_fits post (ln, oc, ax, fy, az, yc, yr, yl) (nI a) p1 p2 p3 := by
    intro post k0 k1
    refine br_f a0 (br_t a10 (br_f (hq 10 (by omega) e10) (br_f (hq 9 (by omega) e9) (h1Y _ ?_))))
    rcases hr1 with rfl | ⟨rfl, -⟩
    · exact br_t rfl (k0 rfl)
    · exact br_f (by decide) (k1 rfl)
  have y89 : ∀ post : Int32 → Prop, (a < 1 ∨ 3 < a) → wY_fits_89 post (nI a) p2 ln oc ax fy az yc yr yl → ((nI a < 1 → wY_fits_89 post (nI a) p2 ln oc ax fy az yc yr yl) ∧ (¬ nI a < 1 → ((3 < nI a → wY_fits_89 post (nI a) p2 ln oc ax fy az yc yr yl) ∧ (¬ 3 < nI a → wpY_in (fun r => (r = 0 → post 0) ∧ (¬ r = 0 → wpY_in (fun r => (r = 0 → post 0) ∧ (¬ r = 0 → post 1)) (ln, oc, ax, fy, az, yc, yr, yl) p3 3)) (ln, oc, ax, fy, az, yc, yr, yl) p2 3)))) := by
    intro post hc k
    exact pk_lt a 1 (fun _ => k) (fun q => pk_lt 3 a (fun _ => k) (fun q2 => absurd hc (by omega)))
  rcases hr1 with rfl | ⟨rfl, w, w1, w2, w3⟩
  · exact ⟨0, Or.inl rfl, fun post hp => X0 post (fun _ => hp) (fun q => absurd q (by decide)), fun post hp => Y0 post (fun _ => hp) (fun q => absurd q (by decide))⟩
  by_cases e0 : a = 0
  · refine ⟨1, Or.inr ⟨rfl, w, 0, 0, ha, fun _ => w3, fun _ => by omega, fun q => absurd q (by omega), fun q => absurd q (by omega), fun q => absurd q (by omega), fun q => absurd q (by omega), fun q => absurd q (by omega), fun q => absurd q (by omega)⟩, fun post hp => ?_, fun post hp => ?_⟩
    · exact X0 post (fun q => absurd q (by decide)) (fun _ => br_t (he 0 e0) hp)
    · exact Y0 post (fun q => absurd q (by decide)) (fun _ => y89 post (by omega) (br_f (hq 4 (by omega) (by omega)) (br_f (hq 5 (by omega) (by omega)) (br_f (hq 6 (by omega) (by omega)) (br_f (hq 7 (by omega) (by omega)) (br_f (hq 8 (by omega) (by omega)) hp))))))
  by_cases e45 : a = 4 ∨ a = 5
  · obtain ⟨r, hr, h⟩ := pe_R 0 11 (by omega) (by omega) p2
    have hb : narrow .boolean (.int r) = .int r := by
      rcases hr with rfl | ⟨rfl, -⟩
      · rfl
      · rfl
    refine ⟨r, ?_, fun post hp => ?_, fun post hp => ?_⟩
    · rcases hr with hr | ⟨hr, v, v1, v2, v3⟩
      · exact Or.inl hr
      · exact Or.inr ⟨hr, w, v, 0, ha, fun _ => w3, fun _ => by omega, fun q => absurd q (by omega), fun _ _ => v3, fun _ q => absurd q (by omega), fun _ _ => by omega, fun q => absurd q (by omega), fun q => absurd q (by omega)⟩
    · refine X0 post (fun q => absurd q (by decide)) (fun _ => br_f (hq 0 (by omega) e0) ?_)
      exact pk_eq a 4 (fun _ => h post hp) (fun n4 => pk_eq a 5 (fun _ => h post hp) (fun n5 => absurd e45 (by omega)))
    · refine Y0 post (fun q => absurd q (by decide)) (fun _ => y89 post (by omega) ?_)
      have k : wY_fits_99 post p2 ln oc ax fy az yc yr yl := by
        have hY : ∀ post : Int32 → Prop, post r → wpY_in post (ln, oc, ax, fy, az, yc, yr, yl) p2 11 := fun post hp => h post hp
        unfold wY_fits_99
        exact hY _ ⟨hb, hp⟩
      exact pk_eq a 4 (fun _ => k) (fun n4 => pk_eq a 5 (fun _ => k) (fun n5 => absurd e45 (by omega)))
  by_cases e8 : a = 8
  · obtain ⟨r, hr, h⟩ := pe_R 1 6 (by omega) (by omega) p2
    refine ⟨r, ?_, fun post hp => ?_, fun post hp => ?_⟩
    · rcases hr with hr | ⟨hr, v, v1, v2, v3⟩
      · exact Or.inl hr
      · exact Or.inr ⟨hr, w, v, 0, ha, fun _ => w3, fun _ => by omega, fun q => absurd q (by omega), fun _ _ => v3, fun _ q => absurd q (by omega), fun _ q => absurd q (by omega), fun _ q => absurd q (by omega), fun _ => ⟨v1, v2⟩⟩
    · exact X0 post (fun q => absurd q (by decide)) (fun _ => br_f (hq 0 (by omega) e0) (br_f (hq 4 (by omega) (by omega)) (br_f (hq 5 (by omega) (by omega)) (br_t (he 8 e8) (h post hp)))))
    · exact Y0 post (fun q => absurd q (by decide)) (fun _ => y89 post (by omega) (br_f (hq 4 (by omega) (by omega)) (br_f (hq 5 (by omega) (by omega)) (br_f (hq 6 (by omega) (by omega)) (br_f (hq 7 (by omega) (by omega)) (br_t (he 8 e8) (h post hp)))))))
  obtain ⟨r2, hr2, h2⟩ := pe_R 0 3 (by omega) (by omega) p2
  have h2X : ∀ post : Int32 → Prop, post r2 → wpX_isRegister post (ln, pl, ct, ol, rd, wr, sr, tk, fl, oc, fx, fy, fz, ce, sv, fr, rg, ls, ll) p2 := fun post hp => h2 post hp
  have h2Y : ∀ post : Int32 → Prop, post r2 → wpY_in post (ln, oc, ax, fy, az, yc, yr, yl) p2 3 := fun post hp => h2 post hp
  by_cases e67 : a = 6 ∨ a = 7
  · have hb : narrow .boolean (.int r2) = .int r2 := by
      rcases hr2 with rfl | ⟨rfl, -⟩
      · rfl
      · rfl
    refine ⟨r2, ?_, fun post hp => ?_, fun post hp => ?_⟩
    · rcases hr2 with hr | ⟨hr, v, v1, v2, v3⟩
      · exact Or.inl hr
      · exact Or.inr ⟨hr, w, v, 0, ha, fun _ => w3, fun _ => by omega, fun q => absurd q (by omega), fun _ _ => v3, fun _ q => absurd q (by omega), fun _ q => absurd q (by omega), fun _ _ => by omega, fun q => absurd q (by omega)⟩
    · refine X0 post (fun q => absurd q (by decide)) (fun _ => br_f (hq 0 (by omega) e0) (br_f (hq 4 (by omega) (by omega)) (br_f (hq 5 (by omega) (by omega)) (br_f (hq 8 (by omega) (by omega)) (h2X _ ?_)))))
      rcases hr2 with rfl | ⟨rfl, -⟩
      · exact br_t rfl hp
      · exact br_f (by decide) (br_t (nI_lt (a := 3) (by omega) (by omega)) hp)
    · refine Y0 post (fun q => absurd q (by decide)) (fun _ => y89 post (by omega) (br_f (hq 4 (by omega) (by omega)) (br_f (hq 5 (by omega) (by omega)) ?_)))
      have k : wY_fits_119 post p2 ln oc ax fy az yc yr yl := by
        unfold wY_fits_119
        exact h2Y _ ⟨hb, hp⟩
      exact pk_eq a 6 (fun _ => k) (fun n4 => pk_eq a 7 (fun _ => k) (fun n5 => absurd e67 (by omega)))
  have a3 : a ≤ 3 := by omega
  obtain ⟨r3, hr3, h3⟩ := pe_R 0 3 (by omega) (by omega) p3
  have h3X : ∀ post : Int32 → Prop, post r3 → wpX_isRegister post (ln, pl, ct, ol, rd, wr, sr, tk, fl, oc, fx, fy, fz, ce, sv, fr, rg, ls, ll) p3 := fun post hp => h3 post hp
  have h3Y : ∀ post : Int32 → Prop, post r3 → wpY_in post (ln, oc, ax, fy, az, yc, yr, yl) p3 3 := fun post hp => h3 post hp
  have l3 : ¬ 3 < nI a := nI_nlt (b := a) (a := 3) a3 (by omega)
  have l1 : ¬ nI a < 1 := nI_nlt (b := 1) (by omega) (by omega)
  have X1 : ∀ post : Int32 → Prop, (r2 = 0 → post 0) → (r2 = 1 → wpX_isRegister (fun r => (r = 0 → post 0) ∧ (¬ r = 0 → post 1)) (ln, pl, ct, ol, rd, wr, sr, tk, fl, oc, fx, fy, fz, ce, sv, fr, rg, ls, ll) p3) → wpX_fits post (ln, pl, ct, ol, rd, wr, sr, tk, fl, oc, fx, fy, fz, ce, sv, fr, rg, ls, ll) (nI a) p1 p2 p3 := by
    intro post k0 k1
    refine X0 post (fun q => absurd q (by decide)) (fun _ => br_f (hq 0 (by omega) e0) (br_f (hq 4 (by omega) (by omega)) (br_f (hq 5 (by omega) (by omega)) (br_f (hq 8 (by omega) (by omega)) (h2X _ ?_)))))
    rcases hr2 with rfl | ⟨rfl, -⟩
    · exact br_t rfl (k0 rfl)
    · exact br_f (by decide) (br_f l3 (k1 rfl))
  have Y1 : ∀ post : Int32 → Prop, (r2 = 0 → post 0) → (r2 = 1 → wpY_in (fun r => (r = 0 → post 0) ∧ (¬ r = 0 → post 1)) (ln, oc, ax, fy, az, yc, yr, yl) p3 3) → wpY_fits post (ln, oc, ax, fy, az, yc, yr, yl) (nI a) p1 p2 p3 := by
    intro post k0 k1
    refine Y0 post (fun q => absurd q (by decide)) (fun _ => br_f l1 (br_f l3 (h2Y _ ?_)))
    rcases hr2 with rfl | ⟨rfl, -⟩
    · exact br_t rfl (k0 rfl)
    · exact br_f (by decide) (k1 rfl)
  rcases hr2 with rfl | ⟨rfl, v, v1, v2, v3⟩
  · exact ⟨0, Or.inl rfl, fun post hp => X1 post (fun _ => hp) (fun q => absurd q (by decide)), fun post hp => Y1 post (fun _ => hp) (fun q => absurd q (by decide))⟩
  rcases hr3 with rfl | ⟨rfl, s, s1, s2, s3⟩
  · exact ⟨0, Or.inl rfl, fun post hp => X1 post (fun q => absurd q (by decide)) (fun _ => h3X _ (br_t rfl hp)), fun post hp => Y1 post (fun q => absurd q (by decide)) (fun _ => h3Y _ (br_t rfl hp))⟩
  · refine ⟨1, Or.inr ⟨rfl, w, v, s, ha, fun _ => w3, fun _ => by omega, fun q => absurd q (by omega), fun _ _ => v3, fun _ _ => ⟨by omega, by omega, s3⟩, fun q => absurd q (by omega), fun q => absurd q (by omega), fun q => absurd q (by omega)⟩, fun post hp => ?_, fun post hp => ?_⟩
    · exact X1 post (fun q => absurd q (by decide)) (fun _ => h3X _ (br_f (by decide) hp))
    · exact Y1 post (fun q => absurd q (by decide)) (fun _ => h3Y _ (br_f (by decide) hp))
end
end
section
/-! ===== clear, and what is owed ===== -/
section
variable {ln pl ct ol rd wr sr tk fl : Int32} {oc fx fy fz ce sv fr rg ls ll ax az yc yr yl : Nat → Int32}
theorem pc_x28 {post : SX → Prop} (h : post (ln, pl, ct, ol, rd, wr, sr, tk, fl, oc, fx, fy, fz, ce, sv, pz_z fr 4, rg, ls, ll)) : ∀ f i : Nat, i ≤ 4 → 4 - i < f → wX_clear_28 post ln pl ct ol rd wr sr tk fl f (nI i) oc fx fy fz ce sv (pz_z fr i) rg ls ll := by
  intro f
  induction f with
  | zero => intro i _ h2; omega
  | succ f ih =>
    intro i h1 h2
    refine pk_le 4 i (fun hi => ?_) (fun hi => ?_)
    · have : i = 4 := by omega
      rw [this]
      exact h
    · exact ⟨vp_in_nI hi (by omega), nm_r (pz_s fr (by omega)) (nm_r (nI_1 i) (ih (i + 1) (by omega) (by omega)))⟩
theorem pc_x7 {post : SX → Prop} (h : post (ln, pl, ct, ol, rd, wr, sr, tk, fl, oc, fx, fy, fz, pz_z ce 12, sv, pz_z fr 4, rg, ls, ll)) : ∀ f i : Nat, i ≤ 12 → 12 - i < f → wX_clear_7 post ln pl ct ol rd wr sr tk fl f (nI i) oc fx fy fz (pz_z ce i) sv fr rg ls ll := by
  intro f
  induction f with
  | zero => intro i _ h2; omega
  | succ f ih =>
    intro i h1 h2
    refine pk_le 12 i (fun hi => ?_) (fun hi => ?_)
    · have : i = 12 := by omega
      rw [this]
      have K := pc_x28 h 5 0 (by omega) (by omega)
      rw [pz_0 fr] at K
      exact ⟨5, K⟩
    · exact ⟨vp_in_nI hi (by omega), nm_r (pz_s ce (by omega)) (nm_r (nI_1 i) (ih (i + 1) (by omega) (by omega)))⟩
theorem pc_x {post : SX → Prop} (h : post (0, pl, ct, ol, rd, wr, sr, tk, fl, oc, fx, fy, fz, pz_z ce 12, sv, pz_z fr 4, rg, ls, ll)) : wpX_clear post (ln, pl, ct, ol, rd, wr, sr, tk, fl, oc, fx, fy, fz, ce, sv, fr, rg, ls, ll) := by
  have K := pc_x7 h 13 0 (by omega) (by omega)
  rw [pz_0 ce] at K
  exact ⟨13, K⟩
theorem pc_y28 {post : SY → Prop} (h : post (ln, oc, ax, fy, az, yc, pz_z yr 4, yl)) : ∀ f i : Nat, i ≤ 4 → 4 - i < f → wY_clear_28 post ln f (nI i) oc ax fy az yc (pz_z yr i) yl := by
  intro f
  induction f with
  | zero => intro i _ h2; omega
  | succ f ih =>
    intro i h1 h2
    refine pk_le 4 i (fun hi => ?_) (fun hi => ?_)
    · have : i = 4 := by omega
      rw [this]
      exact h
    · exact ⟨vp_in_nI hi (by omega), nm_r (pz_s yr (by omega)) (nm_r (nI_1 i) (ih (i + 1) (by omega) (by omega)))⟩
theorem pc_y7 {post : SY → Prop} (h : post (ln, oc, ax, fy, az, pz_z yc 12, pz_z yr 4, yl)) : ∀ f i : Nat, i ≤ 12 → 12 - i < f → wY_clear_7 post ln f (nI i) oc ax fy az (pz_z yc i) yr yl := by
  intro f
  induction f with
  | zero => intro i _ h2; omega
  | succ f ih =>
    intro i h1 h2
    refine pk_le 12 i (fun hi => ?_) (fun hi => ?_)
    · have : i = 12 := by omega
      rw [this]
      have K := pc_y28 h 5 0 (by omega) (by omega)
      rw [pz_0 yr] at K
      exact ⟨5, K⟩
    · exact ⟨vp_in_nI hi (by omega), nm_r (pz_s yc (by omega)) (nm_r (nI_1 i) (ih (i + 1) (by omega) (by omega)))⟩
theorem pc_y {post : SY → Prop} (h : post (0, oc, ax, fy, az, pz_z yc 12, pz_z yr 4, yl)) : wpY_clear post (ln, oc, ax, fy, az, yc, yr, yl) := by
  have K := pc_y7 h 13 0 (by omega) (by omega)
  rw [pz_0 yc] at K
  exact ⟨13, K⟩
end
/-- the trace from a start -/
def pt_tr (o x y z : Nat → Nat) (fy : Nat → Int32) (m : PM) : Nat → PM
  | 0 => m
  | k + 1 => pm_st o x y z fy (pt_tr o x y z fy m k)
theorem i_up {k : Nat} {u : SX} {v : SY} (h : i_Rel k u v) : i_Rel (k + 5) u v := h
theorem i_vc0 : wpX_init (fun u => wpY_init (fun v => i_Rel 0 u v)) := by
  unfold wpX_init wpY_init
  exact ir_mk (n := 0) (o := fun _ => 0) (x := fun _ => 0) (y := fun _ => 0) (z := fun _ => 0) (by omega) (fun _ _ => rfl) (fun i hi => absurd hi (by omega)) (fun i hi => absurd hi (by omega))
theorem i_vc_emit {k : Nat} {u : SX} {v : SY} (I : i_Rel k u v) (hk : k + 5 ≤ 2560) (v1 : Int32) (v2 : Int32) (v3 : Int32) (v4 : Int32) : wpX_emit (fun r u' => wpY_emit (fun r' v' => r' = r ∧ i_Rel (k + 5) u' v') v v1 v2 v3 v4) u v1 v2 v3 v4 := by
  refine ir_el (P := fun u v => wpX_emit (fun r u' => wpY_emit (fun r' v' => r' = r ∧ i_Rel (k + 5) u' v') v v1 v2 v3 v4) u v1 v2 v3 v4) I ?_
  intro n pl ct ol rd wr sr tk fl oc fx fy fz ce sv fr rg ls ll ax az yr yl o x y z hn hr hP hP'
  have R0 : i_Rel (k + 5) (nI n, pl, ct, ol, rd, wr, sr, tk, fl, oc, fx, fy, fz, ce, sv, fr, rg, ls, ll) (nI n, oc, ax, fy, az, ce, yr, yl) := ir_mk hn hr hP hP'
  by_cases n30 : n < 30
  · have lt : nI n < 30 := nI_lt (b := 30) n30 (by omega)
    have ne : ¬ nI n = 30 := fun q => by have := (nI_eq (b := 30) (by omega) (by omega)).mp q; omega
    have ii : vp_in (nI n) 30 := vp_in_nI n30 (by omega)
    have ci : (nI n).toNatClampNeg = n := pf_cl (by omega)
    refine br_t lt ?_
    by_cases h0 : v1 < 0
    · exact br_t h0 (br_f ne (br_t h0 (br_t rfl ⟨rfl, R0⟩)))
    refine br_f h0 ?_
    by_cases h10 : 10 < v1
    · exact br_t h10 (br_f ne (br_f h0 (br_f (Int32.not_le.mpr h10) (br_t rfl ⟨rfl, R0⟩))))
    refine br_f h10 ?_
    obtain ⟨a, ha, rfl⟩ := nI_of2 (x := v1) (M := 10) (n := 10) (by decide) h0 (Int32.not_lt.mp h10)
    obtain ⟨r, hf, hX, hY⟩ := pe_fits (ln := nI n) (pl := pl) (ct := ct) (ol := ol) (rd := rd) (wr := wr) (sr := sr) (tk := tk) (fl := fl) (oc := oc) (fx := fx) (fy := fy) (fz := fz) (ce := ce) (sv := sv) (fr := fr) (rg := rg) (ls := ls) (ll := ll) (ax := ax) (az := az) (yc := ce) (yr := yr) (yl := yl) ha v2 v3 v4
    refine hX _ ?_
    rcases hf with rfl | ⟨rfl, x', y', z', hF⟩
    · exact br_t rfl (br_f ne (hY _ (br_t rfl ⟨rfl, R0⟩)))
    · refine br_f (by decide) ⟨ii, nm_r (e' := upd oc n (nI a)) (by rw [ci, pe_v (by omega)]) ⟨ii, nm_r (e' := upd fx n (vp_nar .byte v2.toInt8.toInt32)) (by rw [ci]) ⟨ii, nm_r (e' := upd fy n v3) (by rw [ci]) ⟨ii, nm_r (e' := upd fz n (vp_nar .byte v4.toInt8.toInt32)) (by rw [ci]) (nm_r (nI_1 n) ?_)⟩⟩⟩⟩
      refine br_f ne (hY _ (br_f (by decide) ⟨ii, nm_r (e' := upd oc n (nI a)) (by rw [ci]) ⟨ii, nm_r (e' := upd ax n v2) (by rw [ci]) ⟨ii, nm_r (e' := upd fy n v3) (by rw [ci]) ⟨ii, nm_r (e' := upd az n v4) (by rw [ci]) (nm_r (nI_1 n) ⟨rfl, ?_⟩)⟩⟩⟩⟩))
      exact ir_mk (n := n + 1) (by omega) hr (pe_PG hP (pe_B hF)) (pe_PG hP' hF)
  · have e30 : n = 30 := by omega
    subst e30
    exact br_f (by decide) (br_t rfl ⟨rfl, R0⟩)
theorem i_vc_retract {k : Nat} {u : SX} {v : SY} (I : i_Rel k u v) (hk : k + 5 ≤ 2560) : wpX_retract (fun r u' => wpY_retract (fun r' v' => r' = r ∧ i_Rel (k + 5) u' v') v) u := by
  refine ir_el (P := fun u v => wpX_retract (fun r u' => wpY_retract (fun r' v' => r' = r ∧ i_Rel (k + 5) u' v') v) u) I ?_
  intro n pl ct ol rd wr sr tk fl oc fx fy fz ce sv fr rg ls ll ax az yr yl o x y z hn hr hP hP'
  by_cases h0 : n = 0
  · subst h0
    exact br_t rfl (br_t rfl ⟨rfl, ir_mk hn hr hP hP'⟩)
  · obtain ⟨m, rfl⟩ : ∃ m, n = m + 1 := ⟨n - 1, by omega⟩
    have ne : ¬ nI (m + 1) = 0 := nI_ne0 (by omega) (by omega)
    exact br_f ne (nm_r (nI_pred m) (br_f ne (nm_r (nI_pred m) ⟨rfl, ir_mk (n := m) (by omega) hr (fun i hi => hP i (by omega)) (fun i hi => hP' i (by omega))⟩)))
theorem i_vc_sound {k : Nat} {u : SX} {v : SY} (I : i_Rel k u v) (hk : k + 5 ≤ 2560) : wpX_sound (fun r => wpY_sound (fun r' => r' = r ∧ i_Rel (k + 5) u v) v) u := by
  refine ir_el (P := fun u v => wpX_sound (fun r => wpY_sound (fun r' => r' = r ∧ i_Rel (k + 5) u v) v) u) I ?_
  intro n pl ct ol rd wr sr tk fl oc fx fy fz ce sv fr rg ls ll ax az yr yl o x y z hn hr hP hP'
  obtain ⟨r, -, hX, hY⟩ := ps_sound (pl := pl) (ct := ct) (ol := ol) (rd := rd) (wr := wr) (sr := sr) (tk := tk) (fl := fl) (ce := ce) (sv := sv) (fr := fr) (rg := rg) (ls := ls) (ll := ll) (ax := ax) (az := az) (yc := ce) (yr := yr) (yl := yl) hP hn
  exact hX _ (hY _ ⟨rfl, ir_mk hn hr hP hP'⟩)
theorem i_vc_setCell {k : Nat} {u : SX} {v : SY} (I : i_Rel k u v) (hk : k + 5 ≤ 2560) (v1 : Int32) (v2 : Int32) : wpX_setCell (fun r u' => wpY_setCell (fun r' v' => r' = r ∧ i_Rel (k + 5) u' v') v v1 v2) u v1 v2 := by
  refine ir_el (P := fun u v => wpX_setCell (fun r u' => wpY_setCell (fun r' v' => r' = r ∧ i_Rel (k + 5) u' v') v v1 v2) u v1 v2) I ?_
  intro n pl ct ol rd wr sr tk fl oc fx fy fz ce sv fr rg ls ll ax az yr yl o x y z hn hr hP hP'
  by_cases h0 : v1 < 0
  · refine br_t h0 ?_
    unfold wpY_setCell
    exact br_t h0 (br_t rfl ⟨rfl, ir_mk hn hr hP hP'⟩)
  by_cases h11 : v1 ≤ 11
  · have ii : vp_in v1 12 := by
      obtain ⟨a, ha, rfl⟩ := nI_of2 (x := v1) (M := 11) (n := 11) (by decide) h0 h11
      exact vp_in_nI (by omega) (by omega)
    refine br_f h0 (br_t h11 ⟨ii, nm_e ?_⟩)
    unfold wpY_setCell
    exact br_f h0 (br_f (Int32.not_lt.mpr h11) (br_f (by decide) ⟨ii, nm_e ⟨rfl, ir_mk hn hr hP hP'⟩⟩))
  · refine br_f h0 (br_f h11 ?_)
    unfold wpY_setCell
    exact br_f h0 (br_t (Int32.not_le.mp h11) (br_t rfl ⟨rfl, ir_mk hn hr hP hP'⟩))
theorem i_vc_run {k : Nat} {u : SX} {v : SY} (I : i_Rel k u v) (hk : k + 5 ≤ 2560) (v1 : Int32) : wpX_run (fun r u' => wpY_run (fun r' v' => r' = r ∧ i_Rel (k + 5) u' v') v v1) u v1 := by
  refine ir_el (P := fun u v => wpX_run (fun r u' => wpY_run (fun r' v' => r' = r ∧ i_Rel (k + 5) u' v') v v1) u v1) I ?_
  intro n pl ct ol rd wr sr tk fl oc fx fy fz ce sv fr rg ls ll ax az yr yl o x y z hn hr hP hP'
  obtain ⟨r, hs, hX, hY⟩ := ps_sound (pl := pl) (ct := ct) (ol := ol) (rd := rd) (wr := wr) (sr := sr) (tk := tk) (fl := fl) (ce := ce) (sv := sv) (fr := fr) (rg := rg) (ls := ls) (ll := ll) (ax := ax) (az := az) (yc := ce) (yr := yr) (yl := yl) hP hn
  rcases hs with rfl | ⟨rfl, hS⟩
  · unfold wpX_run
    refine hX _ (br_t rfl ?_)
    unfold wpY_run
    exact hY _ (br_t rfl ⟨rfl, ir_mk hn hr hP hP'⟩)
  · obtain ⟨N, hN, hpN, hlt, hI⟩ := pm_end (z := z) (fy := fy) hn hS (fun i hi h9 => (hP i hi).2.2.2.2.1 h9) (fun i hi => (hP i hi).2.1) (pt_tr o x y z fy (0, 0, (fun _ => 0), (fun _ => 0), pz_z yr 4, ce, yl)) (fun _ => rfl) rfl rfl
    refine px_run hP hn hS hN hI hlt hpN (fun _ => rfl) (R := pz_z yr 4) (F := yl) rfl (fun r hr => pz_1 hr) hX ?_
    intro pl ol rd wr sr tk sv fr rg ls ll hfr
    exact py_run hP' hn hS hN hI hlt hpN (fun _ => rfl) rfl hY ⟨rfl, ir_mk hn hfr hP hP'⟩
theorem i_vc_cell {k : Nat} {u : SX} {v : SY} (I : i_Rel k u v) (hk : k + 5 ≤ 2560) (v1 : Int32) : wpX_cell (fun r => wpY_cell (fun r' => r' = r ∧ i_Rel (k + 5) u v) v v1) u v1 := by
  refine ir_el (P := fun u v => wpX_cell (fun r => wpY_cell (fun r' => r' = r ∧ i_Rel (k + 5) u v) v v1) u v1) I ?_
  intro n pl ct ol rd wr sr tk fl oc fx fy fz ce sv fr rg ls ll ax az yr yl o x y z hn hr hP hP'
  by_cases h0 : v1 < 0
  · refine br_t h0 ?_
    unfold wpY_cell
    exact br_t h0 (br_t rfl ⟨rfl, ir_mk hn hr hP hP'⟩)
  by_cases h11 : v1 ≤ 11
  · have ii : vp_in v1 12 := by
      obtain ⟨a, ha, rfl⟩ := nI_of2 (x := v1) (M := 11) (n := 11) (by decide) h0 h11
      exact vp_in_nI (by omega) (by omega)
    refine br_f h0 (br_t h11 ⟨ii, ?_⟩)
    unfold wpY_cell
    exact br_f h0 (br_f (Int32.not_lt.mpr h11) (br_f (by decide) ⟨ii, ⟨rfl, ir_mk hn hr hP hP'⟩⟩))
  · refine br_f h0 (br_f h11 ?_)
    unfold wpY_cell
    exact br_f h0 (br_t (Int32.not_le.mp h11) (br_t rfl ⟨rfl, ir_mk hn hr hP hP'⟩))
theorem i_vc_register {k : Nat} {u : SX} {v : SY} (I : i_Rel k u v) (hk : k + 5 ≤ 2560) (v1 : Int32) : wpX_register (fun r => wpY_register (fun r' => r' = r ∧ i_Rel (k + 5) u v) v v1) u v1 := by
  refine ir_el (P := fun u v => wpX_register (fun r => wpY_register (fun r' => r' = r ∧ i_Rel (k + 5) u v) v v1) u v1) I ?_
  intro n pl ct ol rd wr sr tk fl oc fx fy fz ce sv fr rg ls ll ax az yr yl o x y z hn hr hP hP'
  unfold wpX_register wpY_register
  by_cases h0 : v1 < 0
  · exact br_t h0 (br_t rfl (br_t h0 (br_t rfl ⟨rfl, ir_mk hn hr hP hP'⟩)))
  by_cases h3 : 3 < v1
  · exact br_f h0 (br_t h3 (br_t rfl (br_f h0 (br_t h3 (br_t rfl ⟨rfl, ir_mk hn hr hP hP'⟩)))))
  · obtain ⟨a, ha, rfl⟩ := nI_of2 (x := v1) (M := 3) (n := 3) (by decide) h0 (Int32.not_lt.mp h3)
    have ii : vp_in (nI a) 4 := vp_in_nI (by omega) (by omega)
    have ci : (nI a).toNatClampNeg = a := pf_cl (by omega)
    refine br_f h0 (br_f h3 (br_f (by decide) ⟨ii, br_f h0 (br_f h3 (br_f (by decide) ⟨ii, ?_, ir_mk hn hr hP hP'⟩))⟩))
    rw [ci]
    exact (hr a (by omega)).symm
theorem i_vc_clear {k : Nat} {u : SX} {v : SY} (I : i_Rel k u v) (hk : k + 5 ≤ 2560) : wpX_clear (fun u' => wpY_clear (fun v' => i_Rel (k + 5) u' v') v) u := by
  refine ir_el (P := fun u v => wpX_clear (fun u' => wpY_clear (fun v' => i_Rel (k + 5) u' v') v) u) I ?_
  intro n pl ct ol rd wr sr tk fl oc fx fy fz ce sv fr rg ls ll ax az yr yl o x y z hn hr hP hP'
  exact pc_x (pc_y (ir_mk (n := 0) (o := o) (x := x) (y := y) (z := z) (by omega) (fun r hr => by rw [pz_1 hr, pz_1 hr]) (fun i hi => absurd hi (by omega)) (fun i hi => absurd hi (by omega))))
end
