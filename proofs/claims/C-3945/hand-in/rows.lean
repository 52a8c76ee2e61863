section
theorem pk_us {f : Nat → Int32} {k : Nat} {x : Int32} : upd f k x k = x := if_pos rfl
theorem pk_un {f : Nat → Int32} {k j : Nat} {x : Int32} (h : j ≠ k) : upd f k x j = f j := if_neg h
theorem pk_sub {a b : Nat} (h : b ≤ a) : nI a - nI b = nI (a - b) := by
  obtain ⟨c, rfl⟩ : ∃ c, a = c + b := ⟨a - b, by omega⟩
  rw [← nI_add, Int32.add_sub_cancel, Nat.add_sub_cancel]
theorem pk_m1 (n : Nat) : nI (n + 1) + (-1) = nI n := by
  rw [← nI_1, Int32.add_assoc, show (1 : Int32) + (-1) = 0 from rfl, Int32.add_zero]
theorem pk_mul (a b : Nat) : nI a * nI b = nI (a * b) := (Int32.ofNat_mul a b).symm
theorem pk_le {x y : Int32} {A B : Prop} (a b : Nat) (f : a ≤ b → A) (g : b < a → B) (hx : x = nI a := by rfl) (hy : y = nI b := by rfl) (ha : a < 2 ^ 31 := by omega) (hb : b < 2 ^ 31 := by omega) : (x ≤ y → A) ∧ (¬ x ≤ y → B) := by
  subst hx hy
  rw [nI_leI ha hb]
  exact ⟨f, fun z => g (by omega)⟩
theorem pk_lt {x y : Int32} {A B : Prop} (a b : Nat) (f : a < b → A) (g : b ≤ a → B) (hx : x = nI a := by rfl) (hy : y = nI b := by rfl) (ha : a < 2 ^ 31 := by omega) (hb : b < 2 ^ 31 := by omega) : (x < y → A) ∧ (¬ x < y → B) := by
  subst hx hy
  rw [nI_ltI ha hb]
  exact ⟨f, fun z => g (by omega)⟩
theorem pk_eq {x y : Int32} {A B : Prop} (a b : Nat) (f : a = b → A) (g : a ≠ b → B) (hx : x = nI a := by rfl) (hy : y = nI b := by rfl) (ha : a < 2 ^ 31 := by omega) (hb : b < 2 ^ 31 := by omega) : (x = y → A) ∧ (¬ x = y → B) := by
  subst hx hy
  rw [nI_eq ha hb]
  exact ⟨f, g⟩
theorem pk_in {x : Int32} (n N : Nat) (h : n < N) (hx : x = nI n := by rfl) (hN : N < 2 ^ 31 := by omega) : vp_in x N := by
  subst hx
  exact vp_in_nI h hN
theorem pk_cl {x : Int32} (n : Nat) (hx : x = nI n := by rfl) (h : n < 2 ^ 31 := by omega) : x.toNatClampNeg = n := by
  subst hx
  exact nI_clamp h
theorem pk_tn {n : Nat} (h : n < 2 ^ 32) : (nI n).toBitVec.toNat = n := Nat.mod_eq_of_lt h
theorem pk_and (x : Int32) {m : Int32} (k : Nat) (hm : m.toBitVec.toNat = 2 ^ k - 1) : x &&& m = nI (x.toBitVec.toNat % 2 ^ k) := by
  apply Int32.toBitVec_inj.mp
  apply BitVec.eq_of_toNat_eq
  rw [Int32.toBitVec_and, BitVec.toNat_and, hm, Nat.and_two_pow_sub_one_eq_mod]
  show _ = (BitVec.ofNat 32 _).toNat
  rw [BitVec.toNat_ofNat]
  exact (Nat.mod_eq_of_lt (Nat.lt_of_le_of_lt (Nat.mod_le _ _) x.toBitVec.isLt)).symm
theorem pk_andN {n : Nat} (h : n < 2 ^ 32) {m : Int32} (k : Nat) (hm : m.toBitVec.toNat = 2 ^ k - 1) : nI n &&& m = nI (n % 2 ^ k) := by
  rw [pk_and _ k hm, pk_tn h]
theorem pk_shl (a s : Int32) (k : Nat) (hs : (s.toBitVec.smod 32).toNat = k) : (a <<< s).toBitVec.toNat = a.toBitVec.toNat * 2 ^ k % 2 ^ 32 := by
  show (a.toBitVec <<< (s.toBitVec.smod 32).toNat).toNat = _
  rw [hs, BitVec.toNat_shiftLeft, Nat.shiftLeft_eq]
theorem pk_shlN {n : Nat} (s : Int32) (k : Nat) (hs : (s.toBitVec.smod 32).toNat = k) (h : n * 2 ^ k < 2 ^ 32) : nI n <<< s = nI (n * 2 ^ k) := by
  apply Int32.toBitVec_inj.mp
  apply BitVec.eq_of_toNat_eq
  have hn : n < 2 ^ 32 := Nat.lt_of_le_of_lt (Nat.le_mul_of_pos_right n (Nat.two_pow_pos k)) h
  rw [pk_shl _ _ k hs, pk_tn hn, pk_tn h, Nat.mod_eq_of_lt h]
theorem pk_shr (a s : Int32) (k : Nat) (hs : (s.toBitVec.smod 32).toNat = k) : (a >>> s).toInt = a.toInt >>> k := by
  show (a.toBitVec.sshiftRight (s.toBitVec.smod 32).toNat).toInt = _
  rw [hs, BitVec.toInt_sshiftRight]
  rfl
theorem pk_shrN {n : Nat} (h : n < 2 ^ 31) (s : Int32) (k : Nat) (hs : (s.toBitVec.smod 32).toNat = k) : nI n >>> s = nI (n / 2 ^ k) := by
  apply Int32.toInt_inj.mp
  have h2 : n / 2 ^ k ≤ n := Nat.div_le_self _ _
  rw [pk_shr _ _ k hs, nI_toInt h, nI_toInt (by omega), Int.shiftRight_eq_div_pow]
  rfl
theorem s_l : ∀ n, n < 32 → ((nI n &&& 31).toBitVec.smod 32).toNat = n := by decide +kernel
theorem nx_and (a b : Nat) : nI a &&& nI b = nI (a &&& b) := by
  apply Int32.toBitVec_inj.1
  show BitVec.ofNat 32 a &&& BitVec.ofNat 32 b = BitVec.ofNat 32 (a &&& b)
  apply BitVec.eq_of_getLsbD_eq
  intro i hi
  simp [hi]
theorem nx_xor (a b : Nat) : nI a ^^^ nI b = nI (a ^^^ b) := by
  apply Int32.toBitVec_inj.1
  show BitVec.ofNat 32 a ^^^ BitVec.ofNat 32 b = BitVec.ofNat 32 (a ^^^ b)
  apply BitVec.eq_of_getLsbD_eq
  intro i hi
  simp [hi]
end
section
/-! ===== masks as naturals ===== -/
theorem hp_shr {m r : Nat} (hm : m < 2 ^ 31) (hr : r < 32) : nI m >>> (nI r &&& 31) = nI (m / 2 ^ r) := pk_shrN hm _ r (s_l r hr)
theorem hp_bit {m r : Nat} (hm : m < 2 ^ 31) (hr : r < 32) : (nI m >>> (nI r &&& 31)) &&& 1 = nI (m / 2 ^ r % 2) := by
  rw [hp_shr hm hr]
  exact pk_andN (Nat.lt_of_le_of_lt (Nat.div_le_self _ _) (by omega)) 1 (by decide)
theorem hp_b1 {m r : Nat} (hm : m < 2 ^ 31) (hr : r < 32) (h : m.testBit r = true) : (nI m >>> (nI r &&& 31)) &&& 1 = 1 := by
  rw [hp_bit hm hr]
  rw [Nat.testBit_eq_decide_div_mod_eq] at h
  rw [of_decide_eq_true h]
  rfl
theorem hp_b0 {m r : Nat} (hm : m < 2 ^ 31) (hr : r < 32) (h : m.testBit r = false) : (nI m >>> (nI r &&& 31)) &&& 1 = 0 := by
  rw [hp_bit hm hr]
  rw [Nat.testBit_eq_decide_div_mod_eq] at h
  have h2 := of_decide_eq_false h
  have h3 : m / 2 ^ r % 2 = 0 := by
    generalize m / 2 ^ r = z at h2 ⊢
    omega
  rw [h3]
  rfl
theorem hp_b1n {m r : Nat} (hm : m < 2 ^ 31) (hr : r < 32) (h : m.testBit r = true) : ¬ (nI m >>> (nI r &&& 31)) &&& 1 = 0 := by
  rw [hp_b1 hm hr h]
  decide
theorem hp_b0n {m r : Nat} (hm : m < 2 ^ 31) (hr : r < 32) (h : m.testBit r = false) : ¬ (nI m >>> (nI r &&& 31)) &&& 1 = 1 := by
  rw [hp_b0 hm hr h]
  decide
theorem hp_shl : ∀ r, r < 31 → (1 : Int32) <<< (nI r &&& 31) = nI (2 ^ r) := by decide +kernel
theorem hp_lt {m r : Nat} (hm : m < 256) (h : m.testBit r = true) : r < 8 := by
  rcases Nat.lt_or_ge r 8 with z | z
  · exact z
  · have e : (2 : Nat) ^ 8 ≤ 2 ^ r := Nat.pow_le_pow_right (by decide) z
    have e2 : m < 2 ^ r := Nat.lt_of_lt_of_le hm e
    rw [Nat.testBit_lt_two_pow e2] at h
    cases h
theorem hp_lt256 {m : Nat} (h : ∀ r, m.testBit r = true → r < 8) : m < 256 := by
  have e : m < 2 ^ 8 := by
    apply Nat.lt_pow_two_of_testBit
    intro i hi
    cases z : m.testBit i
    · rfl
    · have := h i z
      omega
  exact e
theorem hp_m1 : (-1 : Int32) = nI 4294967295 := by decide +kernel
theorem hp_ff {r : Nat} (hr : r < 32) : Nat.testBit 4294967295 r = true := by
  have h := Nat.testBit_two_pow_sub_one 32 r
  rw [decide_eq_true hr] at h
  exact h
/-- m is a part of A -/
def hp_sb (m A : Nat) : Prop := ∀ r, m.testBit r = true → A.testBit r = true
theorem hp_sub {m A : Nat} (hm : m < 256) : (nI m &&& (nI A ^^^ (-1))) = 0 ↔ hp_sb m A := by
  have hb : m &&& (A ^^^ 4294967295) ≤ m := Nat.and_le_left
  rw [hp_m1, nx_xor, nx_and, ← nI_0, nI_eq (by omega) (by omega)]
  constructor
  · intro h r hr
    have h8 := hp_lt hm hr
    have e : (m &&& (A ^^^ 4294967295)).testBit r = false := by rw [h]; exact Nat.zero_testBit r
    rw [Nat.testBit_and, Nat.testBit_xor, hr, hp_ff (by omega)] at e
    revert e
    cases A.testBit r <;> simp
  · intro h
    apply Nat.eq_of_testBit_eq
    intro r
    rw [Nat.zero_testBit, Nat.testBit_and, Nat.testBit_xor]
    cases hr : m.testBit r
    · rfl
    · have h8 := hp_lt hm hr
      rw [h r hr, hp_ff (by omega)]
      rfl
theorem hp_or (a b : Nat) : nI a ||| nI b = nI (a ||| b) := by
  apply Int32.toBitVec_inj.1
  show BitVec.ofNat 32 a ||| BitVec.ofNat 32 b = BitVec.ofNat 32 (a ||| b)
  apply BitVec.eq_of_getLsbD_eq
  intro i hi
  simp [hi]
/-- A without r -/
def hp_cl (A r : Nat) : Nat := A &&& (2 ^ r ^^^ 4294967295)
theorem hp_cl_e (A r : Nat) : nI A &&& (nI (2 ^ r) ^^^ (-1)) = nI (hp_cl A r) := by
  rw [hp_m1, nx_xor, nx_and]
  rfl
theorem hp_cl_le (A r : Nat) : hp_cl A r ≤ A := Nat.and_le_left
theorem hp_cl_tb {A : Nat} (r j : Nat) (hA : A < 256) : (hp_cl A r).testBit j = (A.testBit j && !decide (r = j)) := by
  unfold hp_cl
  rw [Nat.testBit_and, Nat.testBit_xor, Nat.testBit_two_pow]
  cases hj : A.testBit j
  · rfl
  · have h8 := hp_lt hA hj
    rw [hp_ff (by omega)]
    cases decide (r = j) <;> rfl
theorem hp_set_tb (A r j : Nat) : (A ||| 2 ^ r).testBit j = (A.testBit j || decide (r = j)) := by
  rw [Nat.testBit_or, Nat.testBit_two_pow]
theorem hp_set_self (A r : Nat) : (A ||| 2 ^ r).testBit r = true := by
  rw [hp_set_tb, decide_eq_true rfl, Bool.or_true]
theorem hp_set_ne {A r j : Nat} (h : j ≠ r) : (A ||| 2 ^ r).testBit j = A.testBit j := by
  rw [hp_set_tb, decide_eq_false (fun e => h e.symm), Bool.or_false]
theorem hp_cl_self {A r : Nat} (hA : A < 256) : (hp_cl A r).testBit r = false := by
  rw [hp_cl_tb r r hA, decide_eq_true rfl]
  cases A.testBit r <;> rfl
theorem hp_cl_ne {A r j : Nat} (hA : A < 256) (h : j ≠ r) : (hp_cl A r).testBit j = A.testBit j := by
  rw [hp_cl_tb r j hA, decide_eq_false (fun e => h e.symm)]
  cases A.testBit j <;> rfl
/-- a set bit put in again -/
theorem hp_cl_set {A r : Nat} (hA : A < 256) (h : A.testBit r = true) : hp_cl A r ||| 2 ^ r = A := by
  apply Nat.eq_of_testBit_eq
  intro j
  by_cases e : j = r
  · rw [e, hp_set_self, h]
  · rw [hp_set_ne e, hp_cl_ne hA e]
theorem hp_set_inj {a b r : Nat} (ha : a.testBit r = false) (hb : b.testBit r = false) (h : a ||| 2 ^ r = b ||| 2 ^ r) : a = b := by
  apply Nat.eq_of_testBit_eq
  intro j
  by_cases e : j = r
  · rw [e, ha, hb]
  · rw [← hp_set_ne (A := a) e, h, hp_set_ne e]
theorem hp_set_add : ∀ r, r < 8 → ∀ M, M < 256 → M.testBit r = false → M ||| 2 ^ r = M + 2 ^ r := by decide +kernel
theorem hp_set_lt {M r : Nat} (hM : M < 256) (hr : r < 8) : M ||| 2 ^ r < 256 := by
  apply hp_lt256
  intro j hj
  by_cases e : j = r
  · omega
  · rw [hp_set_ne e] at hj
    exact hp_lt hM hj
theorem hp_p2 {r : Nat} (hr : r < 8) : 2 ^ r < 256 := by
  have h := hp_set_lt (M := 0) (by decide) hr
  rw [Nat.zero_or] at h
  exact h
end
section
/-! ===== sums and costs ===== -/
def hp_sg (f : Nat → Nat) : Nat → Nat
  | 0 => 0
  | n + 1 => hp_sg f n + f n
theorem hp_sg_s (f : Nat → Nat) (n : Nat) : hp_sg f (n + 1) = hp_sg f n + f n := rfl
theorem hp_sg_le {f : Nat → Nat} {b : Nat} (h : ∀ r, f r ≤ b) : ∀ n, hp_sg f n ≤ n * b := by
  intro n
  induction n with
  | zero => exact Nat.zero_le _
  | succ n ih =>
    have := h n
    rw [hp_sg_s, Nat.succ_mul]
    omega
theorem hp_sg_eq {f g : Nat → Nat} : ∀ n, (∀ r, r < n → f r = g r) → hp_sg f n = hp_sg g n := by
  intro n
  induction n with
  | zero => intro _; rfl
  | succ n ih =>
    intro h
    rw [hp_sg_s, hp_sg_s, ih (fun r hr => h r (by omega)), h n (by omega)]
/-- the trust at a place, as a natural -/
def hp_t (T : Nat → Int32) (j : Nat) : Nat := (T j).toNatClampNeg
def hp_RT (T : Nat → Int32) : Prop := ∀ j, T j = nI (hp_t T j) ∧ hp_t T j ≤ 9
def hp_RV (V : Nat → Int32) : Prop := ∀ j, V j = 0 ∨ V j = 1
def hp_w (T V : Nat → Int32) (p : Nat → Bool) (s : Nat) (v : Int32) (r : Nat) : Nat :=
  if p r = true ∧ V (r * 8 + s) = v then hp_t T (r * 8 + s) else 0
/-- the trust of the first c reads that p picks and that say v at the site s -/
def hp_S (T V : Nat → Int32) (c : Nat) (p : Nat → Bool) (s : Nat) (v : Int32) : Nat := hp_sg (hp_w T V p s v) c
theorem hp_S_0 {T V : Nat → Int32} {i s : Nat} {p : Nat → Bool} {v : Int32} (h : p i = false) : hp_S T V (i + 1) p s v = hp_S T V i p s v := by
  unfold hp_S
  rw [hp_sg_s]
  have e : hp_w T V p s v i = 0 := if_neg (fun z => by rw [h] at z; exact absurd z.1 (by decide))
  rw [e, Nat.add_zero]
theorem hp_S_1 {T V : Nat → Int32} {i s : Nat} {p : Nat → Bool} {v : Int32} (h : p i = true) (hv : V (i * 8 + s) = v) : hp_S T V (i + 1) p s v = hp_S T V i p s v + hp_t T (i * 8 + s) := by
  unfold hp_S
  rw [hp_sg_s]
  have e : hp_w T V p s v i = hp_t T (i * 8 + s) := if_pos ⟨h, hv⟩
  rw [e]
theorem hp_S_2 {T V : Nat → Int32} {i s : Nat} {p : Nat → Bool} {v : Int32} (hv : ¬ V (i * 8 + s) = v) : hp_S T V (i + 1) p s v = hp_S T V i p s v := by
  unfold hp_S
  rw [hp_sg_s]
  have e : hp_w T V p s v i = 0 := if_neg (fun z => hv z.2)
  rw [e, Nat.add_zero]
theorem hp_S_le {T V : Nat → Int32} {c s : Nat} {p : Nat → Bool} {v : Int32} (hT : hp_RT T) (hc : c ≤ 8) : hp_S T V c p s v ≤ 72 := by
  have h : hp_S T V c p s v ≤ c * 9 := by
    apply hp_sg_le
    intro r
    unfold hp_w
    split
    · exact (hT _).2
    · exact Nat.zero_le _
  omega
theorem hp_S_eq {T V : Nat → Int32} {c s : Nat} {p q : Nat → Bool} {v : Int32} (h : ∀ r, r < c → p r = q r ∨ hp_t T (r * 8 + s) = 0) : hp_S T V c p s v = hp_S T V c q s v := by
  apply hp_sg_eq
  intro r hr
  rcases h r hr with e | e
  · unfold hp_w
    rw [e]
  · unfold hp_w
    rw [e]
    simp
def hp_mn (f : Int32) (a0 a1 b0 b1 : Nat) : Nat := if f = 0 then min a0 a1 + min b0 b1 else min (a0 + b1) (a1 + b0)
/-- the cost of a site: the reads of pa on strand A, those of pb on strand B -/
def hp_sc (T V : Nat → Int32) (c : Nat) (f : Int32) (s : Nat) (pa pb : Nat → Bool) : Nat :=
  hp_mn f (hp_S T V c pa s 0) (hp_S T V c pa s 1) (hp_S T V c pb s 0) (hp_S T V c pb s 1)
theorem hp_sc_le {T V : Nat → Int32} {c s : Nat} {f : Int32} {pa pb : Nat → Bool} (hT : hp_RT T) (hc : c ≤ 8) : hp_sc T V c f s pa pb ≤ 144 := by
  unfold hp_sc hp_mn
  have h1 : hp_S T V c pa s 0 ≤ 72 := hp_S_le hT hc
  have h2 : hp_S T V c pa s 1 ≤ 72 := hp_S_le hT hc
  have h3 : hp_S T V c pb s 0 ≤ 72 := hp_S_le hT hc
  have h4 : hp_S T V c pb s 1 ≤ 72 := hp_S_le hT hc
  split <;> omega
theorem hp_sc_eq {T V : Nat → Int32} {c s : Nat} {f : Int32} {pa pb qa qb : Nat → Bool} (h : ∀ r, r < c → (pa r = qa r ∧ pb r = qb r) ∨ hp_t T (r * 8 + s) = 0) : hp_sc T V c f s pa pb = hp_sc T V c f s qa qb := by
  have ha : ∀ v, hp_S T V c pa s v = hp_S T V c qa s v := fun v => hp_S_eq (fun r hr => (h r hr).imp (fun z => z.1) id)
  have hb : ∀ v, hp_S T V c pb s v = hp_S T V c qb s v := fun v => hp_S_eq (fun r hr => (h r hr).imp (fun z => z.2) id)
  unfold hp_sc
  rw [ha, ha, hb, hb]
/-- the cost of the mask M at a site -/
def hp_C (T V : Nat → Int32) (c : Nat) (f : Int32) (s M : Nat) : Nat := hp_sc T V c f s (fun r => !M.testBit r) (fun r => M.testBit r)
/-- the cost of the mask M at the first s sites -/
def hp_G (T V : Nat → Int32) (c : Nat) (f : Int32) (s M : Nat) : Nat := hp_sg (fun q => hp_C T V c f q M) s
theorem hp_G_s (T V : Nat → Int32) (c : Nat) (f : Int32) (s M : Nat) : hp_G T V c f (s + 1) M = hp_G T V c f s M + hp_C T V c f s M := rfl
theorem hp_G_le {T V : Nat → Int32} {c s M : Nat} {f : Int32} (hT : hp_RT T) (hc : c ≤ 8) (hs : s ≤ 8) : hp_G T V c f s M ≤ 1152 := by
  have h : hp_G T V c f s M ≤ s * 144 := hp_sg_le (fun q => hp_sc_le hT hc) s
  omega
theorem hp_G_or {T V : Nat → Int32} {c s r M : Nat} {f : Int32} (h : ∀ q, q < s → hp_t T (r * 8 + q) = 0) : hp_G T V c f s (M ||| 2 ^ r) = hp_G T V c f s M := by
  apply hp_sg_eq
  intro q hq
  apply hp_sc_eq
  intro j _
  by_cases e : j = r
  · exact Or.inr (by rw [e]; exact h q hq)
  · exact Or.inl (by rw [hp_set_ne e]; exact ⟨rfl, rfl⟩)
/-! ===== the least of a set of masks, the smallest mask that has it, the number of them ===== -/
def hp_ent (g : Nat → Nat) (P : Nat → Prop) (k b : Nat) (L : List Nat) : Prop :=
  P b ∧ g b = k ∧ (∀ M, P M → k ≤ g M) ∧ (∀ M, P M → g M = k → b ≤ M) ∧ L.Nodup ∧ (∀ M, M ∈ L ↔ (P M ∧ g M = k))
def hp_E (g : Nat → Nat) (P : Nat → Prop) (x y z : Int32) : Prop :=
  ∃ (k b : Nat) (L : List Nat), hp_ent g P k b L ∧ x = nI k ∧ y = nI b ∧ z = nI L.length
theorem hp_E_ext {g g' : Nat → Nat} {P P' : Nat → Prop} {x y z : Int32} (h : hp_E g P x y z) (hP : ∀ M, P' M ↔ P M) (hg : ∀ M, P M → g' M = g M) : hp_E g' P' x y z := by
  obtain ⟨k, b, L, ⟨h1, h2, h3, h4, h5, h6⟩, e⟩ := h
  refine ⟨k, b, L, ⟨(hP b).mpr h1, (hg b h1).trans h2, fun M hM => ?_, fun M hM e2 => ?_, h5, fun M => ?_⟩, e⟩
  · have := (hP M).mp hM
    rw [hg M this]
    exact h3 M this
  · have := (hP M).mp hM
    rw [hg M this] at e2
    exact h4 M this e2
  · rw [h6 M]
    constructor
    · intro z
      exact ⟨(hP M).mpr z.1, (hg M z.1).trans z.2⟩
    · intro z
      have := (hP M).mp z.1
      exact ⟨this, (hg M this).symm.trans z.2⟩
theorem hp_E_add {g g' : Nat → Nat} {P : Nat → Prop} {x y z : Int32} (d : Nat) (h : hp_E g P x y z) (hg : ∀ M, P M → g' M = g M + d) : hp_E g' P (x + nI d) y z := by
  obtain ⟨k, b, L, ⟨h1, h2, h3, h4, h5, h6⟩, e1, e2⟩ := h
  refine ⟨k + d, b, L, ⟨h1, by rw [hg b h1, h2], fun M hM => ?_, fun M hM e3 => ?_, h5, fun M => ?_⟩, by rw [e1, nI_add], e2⟩
  · rw [hg M hM]
    have := h3 M hM
    omega
  · rw [hg M hM] at e3
    exact h4 M hM (by omega)
  · rw [h6 M]
    constructor
    · intro z
      exact ⟨z.1, by rw [hg M z.1, z.2]⟩
    · intro z
      have := z.2
      rw [hg M z.1] at this
      exact ⟨z.1, by omega⟩
theorem hp_E_map {g : Nat → Nat} {P P' : Nat → Prop} {x y z : Int32} (F : Nat → Nat) (h : hp_E g P x y z)
    (hP : ∀ N, P' N ↔ ∃ M, P M ∧ N = F M) (hm : ∀ M M', P M → P M' → M ≤ M' → F M ≤ F M') (hi : ∀ M M', P M → P M' → F M = F M' → M = M')
    (hg : ∀ M, P M → g (F M) = g M) {y' : Int32} (hy : ∀ b, P b → y = nI b → y' = nI (F b)) : hp_E g P' x y' z := by
  obtain ⟨k, b, L, ⟨h1, h2, h3, h4, h5, h6⟩, e1, e2, e3⟩ := h
  refine ⟨k, F b, L.map F, ⟨(hP _).mpr ⟨b, h1, rfl⟩, (hg b h1).trans h2, fun N hN => ?_, fun N hN e => ?_, ?_, fun N => ?_⟩, e1, hy b h1 e2, by rw [List.length_map]; exact e3⟩
  · obtain ⟨M, hM, rfl⟩ := (hP N).mp hN
    rw [hg M hM]
    exact h3 M hM
  · obtain ⟨M, hM, rfl⟩ := (hP N).mp hN
    rw [hg M hM] at e
    exact hm b M h1 hM (h4 M hM e)
  · refine List.pairwise_map.mpr (List.Pairwise.imp_of_mem (fun {a c} ha hc hac => ?_) h5)
    exact fun e => hac (hi a c ((h6 a).mp ha).1 ((h6 c).mp hc).1 e)
  · rw [List.mem_map]
    constructor
    · rintro ⟨M, hM, rfl⟩
      have := (h6 M).mp hM
      exact ⟨(hP _).mpr ⟨M, this.1, rfl⟩, (hg M this.1).trans this.2⟩
    · rintro ⟨hN, e⟩
      obtain ⟨M, hM, rfl⟩ := (hP N).mp hN
      rw [hg M hM] at e
      exact ⟨M, (h6 M).mpr ⟨hM, e⟩, rfl⟩
def hp_jc (x1 x2 : Int32) : Int32 := if x1 ≤ x2 then x1 else x2
def hp_jb (x1 x2 y1 y2 : Int32) : Int32 := if x1 ≤ x2 then (if x2 = x1 then (if y1 ≤ y2 then y1 else y2) else y1) else y2
def hp_jw (x1 x2 z1 z2 : Int32) : Int32 := if x1 ≤ x2 then (if x2 = x1 then z1 + z2 else z1) else z2
theorem hp_E_join {g : Nat → Nat} {P1 P2 P' : Nat → Prop} {x1 y1 z1 x2 y2 z2 : Int32} (H1 : hp_E g P1 x1 y1 z1) (H2 : hp_E g P2 x2 y2 z2)
    (hP : ∀ M, P' M ↔ (P1 M ∨ P2 M)) (hd : ∀ M, P1 M → P2 M → False) (hb : ∀ M, P' M → M < 256) (hg : ∀ M, g M < 10000) :
    hp_E g P' (hp_jc x1 x2) (hp_jb x1 x2 y1 y2) (hp_jw x1 x2 z1 z2) := by
  obtain ⟨k, b, L, ⟨h1, h2, h3, h4, h5, h6⟩, rfl, rfl, rfl⟩ := H1
  obtain ⟨l, a, K, ⟨i1, i2, i3, i4, i5, i6⟩, rfl, rfl, rfl⟩ := H2
  have bk := hg b
  have bl := hg a
  have bb := hb b ((hP b).mpr (Or.inl h1))
  have ba := hb a ((hP a).mpr (Or.inr i1))
  rcases Nat.lt_trichotomy k l with q | q | q
  · have c1 : nI k ≤ nI l := nI_le (by omega) (by omega)
    have c2 : ¬ nI l = nI k := by rw [nI_eq (by omega) (by omega)]; omega
    refine ⟨k, b, L, ⟨(hP b).mpr (Or.inl h1), h2, fun M hM => ?_, fun M hM e => ?_, h5, fun M => ?_⟩, if_pos c1, (if_pos c1).trans (if_neg c2), (if_pos c1).trans (if_neg c2)⟩
    · rcases (hP M).mp hM with z | z
      · exact h3 M z
      · have := i3 M z
        omega
    · rcases (hP M).mp hM with z | z
      · exact h4 M z e
      · have := i3 M z
        omega
    · rw [h6 M]
      constructor
      · intro z
        exact ⟨(hP M).mpr (Or.inl z.1), z.2⟩
      · rintro ⟨z, e⟩
        rcases (hP M).mp z with z | z
        · exact ⟨z, e⟩
        · have := i3 M z
          omega
  · subst q
    have c1 : nI k ≤ nI k := nI_le (by omega) (by omega)
    have N : (L ++ K).Nodup := by
      rw [List.nodup_append]
      refine ⟨h5, i5, fun M hM M' hM' e => ?_⟩
      rw [← e] at hM'
      exact hd M ((h6 M).mp hM).1 ((i6 M).mp hM').1
    have mm : ∀ M, M ∈ L ++ K ↔ (P' M ∧ g M = k) := by
      intro M
      rw [List.mem_append, h6 M, i6 M, hP M]
      constructor
      · rintro (z | z)
        · exact ⟨Or.inl z.1, z.2⟩
        · exact ⟨Or.inr z.1, z.2⟩
      · rintro ⟨z | z, e⟩
        · exact Or.inl ⟨z, e⟩
        · exact Or.inr ⟨z, e⟩
    have lo : ∀ M, P' M → k ≤ g M := by
      intro M hM
      rcases (hP M).mp hM with z | z
      · exact h3 M z
      · exact i3 M z
    have ew : hp_jw (nI k) (nI k) (nI L.length) (nI K.length) = nI (L ++ K).length := by
      rw [List.length_append, ← nI_add]
      exact (if_pos c1).trans (if_pos rfl)
    by_cases hba : b ≤ a
    · have c3 : nI b ≤ nI a := nI_le hba (by omega)
      refine ⟨k, b, L ++ K, ⟨(hP b).mpr (Or.inl h1), h2, lo, fun M hM e => ?_, N, mm⟩, if_pos c1, (if_pos c1).trans ((if_pos rfl).trans (if_pos c3)), ew⟩
      rcases (hP M).mp hM with z | z
      · exact h4 M z e
      · exact Nat.le_trans hba (i4 M z e)
    · have c3 : ¬ nI b ≤ nI a := by rw [nI_leI (by omega) (by omega)]; exact hba
      refine ⟨k, a, L ++ K, ⟨(hP a).mpr (Or.inr i1), i2, lo, fun M hM e => ?_, N, mm⟩, if_pos c1, (if_pos c1).trans ((if_pos rfl).trans (if_neg c3)), ew⟩
      rcases (hP M).mp hM with z | z
      · have := h4 M z e
        omega
      · exact i4 M z e
  · have c1 : ¬ nI k ≤ nI l := by rw [nI_leI (by omega) (by omega)]; omega
    refine ⟨l, a, K, ⟨(hP a).mpr (Or.inr i1), i2, fun M hM => ?_, fun M hM e => ?_, i5, fun M => ?_⟩, if_neg c1, if_neg c1, if_neg c1⟩
    · rcases (hP M).mp hM with z | z
      · have := h3 M z
        omega
      · exact i3 M z
    · rcases (hP M).mp hM with z | z
      · have := h3 M z
        omega
      · exact i4 M z e
    · rw [i6 M]
      constructor
      · intro z
        exact ⟨(hP M).mpr (Or.inr z.1), z.2⟩
      · rintro ⟨z, e⟩
        rcases (hP M).mp z with z | z
        · have := h3 M z
          omega
        · exact ⟨z, e⟩
end
section
/-! ===== the table ===== -/
/-- M agrees with m on the reads at work, holds begun reads alone, and read 0 is on strand A -/
def hp_P (A B : Nat → Prop) (m M : Nat) : Prop :=
  (∀ r, A r → M.testBit r = m.testBit r) ∧ (∀ r, M.testBit r = true → B r) ∧ M.testBit 0 = false
def hp_in (A : Nat → Prop) (m : Nat) : Prop := ∀ r, m.testBit r = true → A r
def hp_TB (g : Nat → Nat) (A B : Nat → Prop) (xc xb xw : Nat → Int32) : Prop :=
  ∀ m, m < 256 → hp_in A m → (m.testBit 0 = true → xc m = 1000000) ∧ (m.testBit 0 = false → hp_E g (hp_P A B m) (xc m) (xb m) (xw m))
def hp_I (g : Nat → Nat) (A B : Nat → Prop) (aw : Int32) (xc xb xw : Nat → Int32) : Prop :=
  ∃ am : Nat, am < 256 ∧ aw = nI am ∧ (∀ r, am.testBit r = true ↔ A r) ∧ (∀ r, A r → B r) ∧ (∀ r, B r → r < 8) ∧ hp_TB g A B xc xb xw
theorem hp_I_cong {g : Nat → Nat} {A B A' B' : Nat → Prop} {aw : Int32} {xc xb xw : Nat → Int32} (h : hp_I g A B aw xc xb xw) (hA : ∀ r, A' r ↔ A r) (hB : ∀ r, B' r ↔ B r) : hp_I g A' B' aw xc xb xw := by
  have e1 : A' = A := funext (fun r => propext (hA r))
  have e2 : B' = B := funext (fun r => propext (hB r))
  rw [e1, e2]
  exact h
theorem hp_P_lt {A B : Nat → Prop} {m M : Nat} (hB : ∀ r, B r → r < 8) (h : hp_P A B m M) : M < 256 := hp_lt256 (fun r hr => hB r (h.2.1 r hr))
theorem hp_nb {b : Bool} (h : ¬ b = true) : b = false := by
  cases b
  · rfl
  · exact absurd rfl h
/-- what beginRead leaves, m up to i
-/
def hp_BG (r am i : Nat) (xc xb xw yc yb yw : Nat → Int32) : Prop :=
  (∀ j, j.testBit r = false → yc j = xc j ∧ yb j = xb j ∧ yw j = xw j) ∧
  (∀ m, m < i → hp_sb m am → yc (m ||| 2 ^ r) = (if r = 0 then 1000000 else xc m) ∧ yb (m ||| 2 ^ r) = (xb m ||| nI (2 ^ r)) ∧ yw (m ||| 2 ^ r) = xw m)
theorem hp_BG_0 (r am : Nat) (xc xb xw : Nat → Int32) : hp_BG r am 0 xc xb xw xc xb xw :=
  ⟨fun _ _ => ⟨rfl, rfl, rfl⟩, fun m hm _ => absurd hm (Nat.not_lt_zero m)⟩
theorem hp_BG_n {r am i : Nat} {xc xb xw yc yb yw : Nat → Int32} (h : hp_BG r am i xc xb xw yc yb yw) (hi : ¬ hp_sb i am) : hp_BG r am (i + 1) xc xb xw yc yb yw :=
  ⟨h.1, fun m hm hs => h.2 m (by
    rcases Nat.lt_or_ge m i with z | z
    · exact z
    · have e : m = i := by omega
      rw [e] at hs
      exact absurd hs hi) hs⟩
theorem hp_BG_s {r am i : Nat} {xc xb xw yc yb yw : Nat → Int32} (h : hp_BG r am i xc xb xw yc yb yw) (hr : am.testBit r = false) (hi : hp_sb i am) {v0 v1 v2 : Int32}
    (h0 : v0 = (if r = 0 then 1000000 else xc i)) (h1 : v1 = (xb i ||| nI (2 ^ r))) (h2 : v2 = xw i) :
    hp_BG r am (i + 1) xc xb xw (upd yc (i ||| 2 ^ r) v0) (upd yb (i ||| 2 ^ r) v1) (upd yw (i ||| 2 ^ r) v2) := by
  have nr : ∀ m, hp_sb m am → m.testBit r = false := by
    intro m hm
    apply hp_nb
    intro e
    rw [hm r e] at hr
    cases hr
  refine ⟨fun j hj => ?_, fun m hm hs => ?_⟩
  · have e : j ≠ i ||| 2 ^ r := by
      intro e
      rw [e, hp_set_self] at hj
      cases hj
    rw [pk_un e, pk_un e, pk_un e]
    exact h.1 j hj
  · by_cases e : m = i
    · subst e
      rw [pk_us, pk_us, pk_us]
      exact ⟨h0, h1, h2⟩
    · have e2 : m ||| 2 ^ r ≠ i ||| 2 ^ r := fun z => e (hp_set_inj (nr m hs) (nr i hi) z)
      rw [pk_un e2, pk_un e2, pk_un e2]
      exact h.2 m (by omega) hs
theorem hp_TB_begin {g : Nat → Nat} {A B A' B' : Nat → Prop} {r am : Nat} {xc xb xw yc yb yw : Nat → Int32} (h : hp_TB g A B xc xb xw) (hr : r < 8)
    (ham : ∀ j, am.testBit j = true ↔ A j) (hAB : ∀ j, A j → B j) (hB8 : ∀ j, B j → j < 8) (hBr : ¬ B r)
    (hA' : ∀ j, A' j ↔ (A j ∨ j = r)) (hB' : ∀ j, B' j ↔ (B j ∨ j = r)) (hg : ∀ M, g (M ||| 2 ^ r) = g M)
    (hb : hp_BG r am 256 xc xb xw yc yb yw) : hp_TB g A' B' yc yb yw := by
  have hAr : ¬ A r := fun z => hBr (hAB r z)
  intro m hm hin
  cases hmr : m.testBit r
  · -- the read is on strand A
    have hinA : hp_in A m := by
      intro j hj
      rcases (hA' j).mp (hin j hj) with z | z
      · exact z
      · rw [z, hmr] at hj
        cases hj
    obtain ⟨e0, e1, e2⟩ := hb.1 m hmr
    rw [e0, e1, e2]
    refine ⟨(h m hm hinA).1, fun z0 => hp_E_ext ((h m hm hinA).2 z0) (fun M => ?_) (fun _ _ => rfl)⟩
    constructor
    · rintro ⟨p1, p2, p3⟩
      refine ⟨fun j hj => p1 j ((hA' j).mpr (Or.inl hj)), fun j hj => ?_, p3⟩
      rcases (hB' j).mp (p2 j hj) with z | z
      · exact z
      · have q := p1 r ((hA' r).mpr (Or.inr rfl))
        rw [z] at hj
        rw [hj, hmr] at q
        cases q
    · rintro ⟨p1, p2, p3⟩
      refine ⟨fun j hj => ?_, fun j hj => (hB' j).mpr (Or.inl (p2 j hj)), p3⟩
      rcases (hA' j).mp hj with z | z
      · exact p1 j z
      · rw [z, hmr]
        apply hp_nb
        intro e
        exact hBr (p2 r e)
  · -- on strand B
    have hn : hp_cl m r < 256 := Nat.lt_of_le_of_lt (hp_cl_le m r) hm
    have hset : hp_cl m r ||| 2 ^ r = m := hp_cl_set hm hmr
    have hnA : hp_in A (hp_cl m r) := by
      intro j hj
      by_cases e : j = r
      · rw [e, hp_cl_self hm] at hj
        cases hj
      · rw [hp_cl_ne hm e] at hj
        rcases (hA' j).mp (hin j hj) with z | z
        · exact z
        · exact absurd z e
    have hsb : hp_sb (hp_cl m r) am := fun j hj => (ham j).mpr (hnA j hj)
    obtain ⟨e0, e1, e2⟩ := hb.2 (hp_cl m r) hn hsb
    rw [hset] at e0 e1 e2
    rw [e0, e1, e2]
    by_cases hr0 : r = 0
    · rw [if_pos hr0]
      refine ⟨fun _ => rfl, fun z => ?_⟩
      rw [← hr0, hmr] at z
      cases z
    · rw [if_neg hr0]
      have h00 : m.testBit 0 = (hp_cl m r).testBit 0 := (hp_cl_ne hm (fun e => hr0 e.symm)).symm
      rw [h00]
      obtain ⟨t1, t2⟩ := h (hp_cl m r) hn hnA
      refine ⟨t1, fun z0 => ?_⟩
      have nob : ∀ M, hp_P A B (hp_cl m r) M → M.testBit r = false := by
        intro M hM
        apply hp_nb
        intro e
        exact hBr (hM.2.1 r e)
      have lt : ∀ M, hp_P A B (hp_cl m r) M → M < 256 := fun M hM => hp_P_lt hB8 hM
      refine hp_E_map (fun M => M ||| 2 ^ r) (t2 z0) (fun N => ?_) (fun M M' hM hM' l => ?_) (fun M M' hM hM' e => ?_) (fun M _ => hg M) (fun b _ eb => ?_)
      · constructor
        · rintro ⟨p1, p2, p3⟩
          have hNr : N.testBit r = true := by
            rw [p1 r ((hA' r).mpr (Or.inr rfl)), hmr]
          have hN : N < 256 := by
            apply hp_lt256
            intro j hj
            rcases (hB' j).mp (p2 j hj) with z | z
            · exact hB8 j z
            · omega
          refine ⟨hp_cl N r, ⟨fun j hj => ?_, fun j hj => ?_, ?_⟩, (hp_cl_set hN hNr).symm⟩
          · have e : j ≠ r := fun e => hAr (e ▸ hj)
            rw [hp_cl_ne hN e, hp_cl_ne hm e]
            exact p1 j ((hA' j).mpr (Or.inl hj))
          · by_cases e : j = r
            · rw [e, hp_cl_self hN] at hj
              cases hj
            · rw [hp_cl_ne hN e] at hj
              rcases (hB' j).mp (p2 j hj) with z | z
              · exact z
              · exact absurd z e
          · rw [hp_cl_ne hN (fun e => hr0 e.symm)]
            exact p3
        · rintro ⟨M, hM, rfl⟩
          refine ⟨fun j hj => ?_, fun j hj => ?_, ?_⟩
          · by_cases e : j = r
            · rw [e, hp_set_self, hmr]
            · rw [hp_set_ne e, ← hp_cl_ne (r := r) hm e]
              rcases (hA' j).mp hj with z | z
              · exact hM.1 j z
              · exact absurd z e
          · by_cases e : j = r
            · exact (hB' j).mpr (Or.inr e)
            · rw [hp_set_ne e] at hj
              exact (hB' j).mpr (Or.inl (hM.2.1 j hj))
          · rw [hp_set_ne (fun e => hr0 e.symm)]
            exact hM.2.2
      · show M ||| 2 ^ r ≤ M' ||| 2 ^ r
        rw [hp_set_add r hr M (lt M hM) (nob M hM), hp_set_add r hr M' (lt M' hM') (nob M' hM')]
        omega
      · exact hp_set_inj (nob M hM) (nob M' hM') e
      · rw [eb, hp_or]
/-- what endRead leaves, m up to i -/
def hp_EN (r am i : Nat) (xc xb xw yc yb yw : Nat → Int32) : Prop :=
  (∀ j, (¬ hp_sb j am ∨ i ≤ j) → yc j = xc j ∧ yb j = xb j ∧ yw j = xw j) ∧
  (∀ m, m < i → hp_sb m am → yc m = hp_jc (xc m) (xc (m ||| 2 ^ r)) ∧ yb m = hp_jb (xc m) (xc (m ||| 2 ^ r)) (xb m) (xb (m ||| 2 ^ r)) ∧ yw m = hp_jw (xc m) (xc (m ||| 2 ^ r)) (xw m) (xw (m ||| 2 ^ r)))
theorem hp_EN_0 (r am : Nat) (xc xb xw : Nat → Int32) : hp_EN r am 0 xc xb xw xc xb xw :=
  ⟨fun _ _ => ⟨rfl, rfl, rfl⟩, fun m hm _ => absurd hm (Nat.not_lt_zero m)⟩
theorem hp_EN_n {r am i : Nat} {xc xb xw yc yb yw : Nat → Int32} (h : hp_EN r am i xc xb xw yc yb yw) (hi : ¬ hp_sb i am) : hp_EN r am (i + 1) xc xb xw yc yb yw :=
  ⟨fun j hj => h.1 j (hj.imp id (fun z => by omega)), fun m hm hs => h.2 m (by
    rcases Nat.lt_or_ge m i with z | z
    · exact z
    · have e : m = i := by omega
      rw [e] at hs
      exact absurd hs hi) hs⟩
theorem hp_EN_s {r am i : Nat} {xc xb xw yc yb yw zc zb zw : Nat → Int32} (h : hp_EN r am i xc xb xw yc yb yw) (hr : am.testBit r = false) (hi : hp_sb i am)
    (hz : ∀ j, j ≠ i → zc j = yc j ∧ zb j = yb j ∧ zw j = yw j) (h0 : zc i = hp_jc (yc i) (yc (i ||| 2 ^ r)))
    (h1 : zb i = hp_jb (yc i) (yc (i ||| 2 ^ r)) (yb i) (yb (i ||| 2 ^ r))) (h2 : zw i = hp_jw (yc i) (yc (i ||| 2 ^ r)) (yw i) (yw (i ||| 2 ^ r))) :
    hp_EN r am (i + 1) xc xb xw zc zb zw := by
  have no : ¬ hp_sb (i ||| 2 ^ r) am := by
    intro z
    have q := z r (hp_set_self i r)
    rw [hr] at q
    cases q
  obtain ⟨a0, a1, a2⟩ := h.1 i (Or.inr (Nat.le_refl i))
  obtain ⟨b0, b1, b2⟩ := h.1 (i ||| 2 ^ r) (Or.inl no)
  rw [a0, b0] at h0
  rw [a0, b0, a1, b1] at h1
  rw [a0, b0, a2, b2] at h2
  refine ⟨fun j hj => ?_, fun m hm hs => ?_⟩
  · have e : j ≠ i := by
      intro e
      rcases hj with z | z
      · rw [e] at z
        exact z hi
      · omega
    obtain ⟨c0, c1, c2⟩ := hz j e
    rw [c0, c1, c2]
    exact h.1 j (hj.imp id (fun z => by omega))
  · by_cases e : m = i
    · subst e
      exact ⟨h0, h1, h2⟩
    · obtain ⟨c0, c1, c2⟩ := hz m e
      rw [c0, c1, c2]
      exact h.2 m (by omega) hs
theorem hp_TB_end {g : Nat → Nat} {A B A' : Nat → Prop} {r am : Nat} {xc xb xw yc yb yw : Nat → Int32} (h : hp_TB g A B xc xb xw) (hr : r < 8)
    (ham : ∀ j, am.testBit j = true ↔ A' j) (hB8 : ∀ j, B j → j < 8) (hAr : A r)
    (hA' : ∀ j, A' j ↔ (A j ∧ j ≠ r)) (hg : ∀ M, g M < 10000)
    (hb : hp_EN r am 256 xc xb xw yc yb yw) : hp_TB g A' B yc yb yw := by
  intro m hm hin
  have hinA : hp_in A m := fun j hj => ((hA' j).mp (hin j hj)).1
  have hmr : m.testBit r = false := by
    apply hp_nb
    intro e
    exact ((hA' r).mp (hin r e)).2 rfl
  have hinS : hp_in A (m ||| 2 ^ r) := by
    intro j hj
    by_cases e : j = r
    · rw [e]; exact hAr
    · rw [hp_set_ne e] at hj
      exact hinA j hj
  have hsb : hp_sb m am := fun j hj => (ham j).mpr (hin j hj)
  obtain ⟨e0, e1, e2⟩ := hb.2 m hm hsb
  obtain ⟨s1, s2⟩ := h m hm hinA
  obtain ⟨o1, o2⟩ := h (m ||| 2 ^ r) (hp_set_lt hm hr) hinS
  rw [e0, e1, e2]
  refine ⟨fun z => ?_, fun z => ?_⟩
  · have z2 : (m ||| 2 ^ r).testBit 0 = true := by rw [hp_set_tb, z]; rfl
    rw [s1 z, o1 z2]
    exact if_pos (by decide)
  · by_cases hr0 : r = 0
    · have z2 : (m ||| 2 ^ r).testBit 0 = true := by rw [hp_set_tb, z, decide_eq_true hr0]; rfl
      rw [o1 z2]
      have E := s2 z
      have c : xc m ≤ 1000000 ∧ ¬ (1000000 : Int32) = xc m := by
        obtain ⟨k, b, L, ⟨k1, k2, _⟩, ek, _⟩ := E
        have hk := hg b
        have e6 : (1000000 : Int32) = nI 1000000 := rfl
        rw [ek, e6]
        exact ⟨nI_le (by omega) (by omega), by rw [nI_eq (by omega) (by omega)]; omega⟩
      have j0 : hp_jc (xc m) 1000000 = xc m := if_pos c.1
      have j1 : hp_jb (xc m) 1000000 (xb m) (xb (m ||| 2 ^ r)) = xb m := (if_pos c.1).trans (if_neg c.2)
      have j2 : hp_jw (xc m) 1000000 (xw m) (xw (m ||| 2 ^ r)) = xw m := (if_pos c.1).trans (if_neg c.2)
      rw [j0, j1, j2]
      refine hp_E_ext E (fun M => ?_) (fun _ _ => rfl)
      constructor
      · rintro ⟨p1, p2, p3⟩
        refine ⟨fun j hj => ?_, p2, p3⟩
        by_cases e : j = r
        · rw [e, hr0, p3, z]
        · exact p1 j ((hA' j).mpr ⟨hj, e⟩)
      · rintro ⟨p1, p2, p3⟩
        exact ⟨fun j hj => p1 j ((hA' j).mp hj).1, p2, p3⟩
    · have h0r : 0 ≠ r := fun e => hr0 e.symm
      have z2 : (m ||| 2 ^ r).testBit 0 = false := by rw [hp_set_ne h0r]; exact z
      refine hp_E_join (s2 z) (o2 z2) (fun M => ?_) (fun M q1 q2 => ?_) (fun M q => hp_P_lt hB8 q) hg
      · constructor
        · rintro ⟨p1, p2, p3⟩
          cases hMr : M.testBit r
          · refine Or.inl ⟨fun j hj => ?_, p2, p3⟩
            by_cases e : j = r
            · rw [e, hMr, hmr]
            · exact p1 j ((hA' j).mpr ⟨hj, e⟩)
          · refine Or.inr ⟨fun j hj => ?_, p2, p3⟩
            by_cases e : j = r
            · rw [e, hMr, hp_set_self]
            · rw [hp_set_ne e]
              exact p1 j ((hA' j).mpr ⟨hj, e⟩)
        · rintro (⟨p1, p2, p3⟩ | ⟨p1, p2, p3⟩)
          · exact ⟨fun j hj => p1 j ((hA' j).mp hj).1, p2, p3⟩
          · refine ⟨fun j hj => ?_, p2, p3⟩
            have q := (hA' j).mp hj
            rw [p1 j q.1, hp_set_ne q.2]
      · have a := q1.1 r hAr
        have b := q2.1 r hAr
        rw [a, hmr, hp_set_self] at b
        cases b
/-- what addSite leaves, m up to i -/
def hp_AD (am i : Nat) (d : Nat → Nat) (xc yc : Nat → Int32) : Prop :=
  (∀ j, i ≤ j → yc j = xc j) ∧ (∀ m, m < i → hp_sb m am → yc m = if 1000000 ≤ xc m then xc m else xc m + nI (d m))
theorem hp_AD_0 (am : Nat) (d : Nat → Nat) (xc : Nat → Int32) : hp_AD am 0 d xc xc := ⟨fun _ _ => rfl, fun m hm _ => absurd hm (Nat.not_lt_zero m)⟩
theorem hp_AD_n {am i : Nat} {d : Nat → Nat} {xc yc : Nat → Int32} (h : hp_AD am i d xc yc) (hi : ¬ hp_sb i am) : hp_AD am (i + 1) d xc yc :=
  ⟨fun j hj => h.1 j (by omega), fun m hm hs => h.2 m (by
    rcases Nat.lt_or_ge m i with z | z
    · exact z
    · have e : m = i := by omega
      rw [e] at hs
      exact absurd hs hi) hs⟩
theorem hp_AD_k {am i : Nat} {d : Nat → Nat} {xc yc : Nat → Int32} (h : hp_AD am i d xc yc) (hi : 1000000 ≤ yc i) : hp_AD am (i + 1) d xc yc := by
  have e0 := h.1 i (Nat.le_refl i)
  refine ⟨fun j hj => h.1 j (by omega), fun m hm hs => ?_⟩
  by_cases e : m = i
  · subst e
    rw [e0] at hi ⊢
    exact (if_pos hi).symm
  · exact h.2 m (by omega) hs
theorem hp_AD_s {am i : Nat} {d : Nat → Nat} {xc yc : Nat → Int32} (h : hp_AD am i d xc yc) (hi : ¬ 1000000 ≤ yc i) : hp_AD am (i + 1) d xc (upd yc i (yc i + nI (d i))) := by
  have e0 := h.1 i (Nat.le_refl i)
  refine ⟨fun j hj => ?_, fun m hm hs => ?_⟩
  · rw [pk_un (by omega)]
    exact h.1 j (by omega)
  · by_cases e : m = i
    · subst e
      rw [pk_us]
      rw [e0] at hi ⊢
      exact (if_neg hi).symm
    · rw [pk_un e]
      exact h.2 m (by omega) hs
theorem hp_TB_add {g g' : Nat → Nat} {A B : Nat → Prop} {am : Nat} {d : Nat → Nat} {xc xb xw yc : Nat → Int32} (h : hp_TB g A B xc xb xw)
    (ham : ∀ j, am.testBit j = true ↔ A j) (hg : ∀ M, g M < 10000) (hd : ∀ m M, hp_P A B m M → g' M = g M + d m)
    (hb : hp_AD am 256 d xc yc) : hp_TB g' A B yc xb xw := by
  intro m hm hin
  obtain ⟨s1, s2⟩ := h m hm hin
  rw [hb.2 m hm (fun j hj => (ham j).mpr (hin j hj))]
  refine ⟨fun z => ?_, fun z => ?_⟩
  · rw [s1 z]
    exact if_pos (by decide)
  · have E := s2 z
    have c : ¬ 1000000 ≤ xc m := by
      obtain ⟨k, b, L, ⟨k1, k2, _⟩, ek, _⟩ := E
      have hk := hg b
      have e6 : (1000000 : Int32) = nI 1000000 := rfl
      rw [ek, e6, nI_leI (by omega) (by omega)]
      omega
    rw [if_neg c]
    exact hp_E_add (d m) E (fun M hM => hd m M hM)
end
section
/-! ===== X: the cost of a site, the first and the last site of a read ===== -/
theorem hp_smX {post : Int32 → Prop} {x y : Int32} {a b : Nat} (ex : x = nI a) (ey : y = nI b) (ha : a < 2 ^ 31) (hb : b < 2 ^ 31) (k : post (nI (min a b))) : wpX_smaller post x y := by
  subst ex ey
  unfold wpX_smaller
  refine pk_le b a (fun h => ?_) (fun h => ?_) rfl rfl hb ha
  · rw [Nat.min_eq_right h] at k
    exact k
  · rw [Nat.min_eq_left (by omega)] at k
    exact k
theorem hp_ix8 (i s : Nat) : nI i * 8 + nI s = nI (i * 8 + s) := by
  rw [show (8 : Int32) = nI 8 from rfl, pk_mul, nI_add]
section
variable {R aw a0 a1 b0 b1 : Int32} {T V xc xb xw : Nat → Int32}
theorem hp_wr0 {post : SX → Prop} {p0 p1 y : Int32} {j : Nat} (hj : j < 64) (e0 : p0 = nI j) (e1 : p1 = 0) (hv : V j = 0) (ey : a0 + T j = y)
    (k : post (R, aw, y, a1, b0, b1, T, V, xc, xb, xw)) : wpX_weighRead post (R, aw, a0, a1, b0, b1, T, V, xc, xb, xw) p0 p1 := by
  subst e0 e1 ey
  have hc : (nI j).toNatClampNeg = j := nI_clamp (by omega)
  have hi : vp_in (nI j) 64 := vp_in_nI hj (by decide)
  refine And.intro hi (nm_r (e' := T j) (by rw [hc]) (br_t rfl (And.intro hi (br_t (by rw [hc]; exact hv) (nm_e k)))))
theorem hp_wr1 {post : SX → Prop} {p0 p1 y : Int32} {j : Nat} (hj : j < 64) (e0 : p0 = nI j) (e1 : p1 = 0) (hv : ¬ V j = 0) (ey : a1 + T j = y)
    (k : post (R, aw, a0, y, b0, b1, T, V, xc, xb, xw)) : wpX_weighRead post (R, aw, a0, a1, b0, b1, T, V, xc, xb, xw) p0 p1 := by
  subst e0 e1 ey
  have hc : (nI j).toNatClampNeg = j := nI_clamp (by omega)
  have hi : vp_in (nI j) 64 := vp_in_nI hj (by decide)
  have K : wX_weighRead_33 post (nI j) 0 (T j) R aw a0 a1 b0 b1 T V xc xb xw := br_t rfl (nm_e k)
  refine And.intro hi (nm_r (e' := T j) (by rw [hc]) (br_t rfl (And.intro hi (br_f (by rw [hc]; exact hv) K))))
theorem hp_wr2 {post : SX → Prop} {p0 p1 y : Int32} {j : Nat} (hj : j < 64) (e0 : p0 = nI j) (e1 : p1 = 1) (hv : V j = 0) (ey : b0 + T j = y)
    (k : post (R, aw, a0, a1, y, b1, T, V, xc, xb, xw)) : wpX_weighRead post (R, aw, a0, a1, b0, b1, T, V, xc, xb, xw) p0 p1 := by
  subst e0 e1 ey
  have hc : (nI j).toNatClampNeg = j := nI_clamp (by omega)
  have hi : vp_in (nI j) 64 := vp_in_nI hj (by decide)
  have K : wX_weighRead_33 post (nI j) 1 (T j) R aw a0 a1 b0 b1 T V xc xb xw := br_f (by decide) (And.intro hi (br_t (by rw [hc]; exact hv) (nm_e k)))
  refine And.intro hi (nm_r (e' := T j) (by rw [hc]) (br_f (by decide) K))
theorem hp_wr3 {post : SX → Prop} {p0 p1 y : Int32} {j : Nat} (hj : j < 64) (e0 : p0 = nI j) (e1 : p1 = 1) (hv : ¬ V j = 0) (ey : b1 + T j = y)
    (k : post (R, aw, a0, a1, b0, y, T, V, xc, xb, xw)) : wpX_weighRead post (R, aw, a0, a1, b0, b1, T, V, xc, xb, xw) p0 p1 := by
  subst e0 e1 ey
  have hc : (nI j).toNatClampNeg = j := nI_clamp (by omega)
  have hi : vp_in (nI j) 64 := vp_in_nI hj (by decide)
  have K : wX_weighRead_33 post (nI j) 1 (T j) R aw a0 a1 b0 b1 T V xc xb xw := br_f (by decide) (And.intro hi (br_f (by rw [hc]; exact hv) (nm_e k)))
  refine And.intro hi (nm_r (e' := T j) (by rw [hc]) (br_f (by decide) K))
theorem hp_weigh_l {post : SX → Prop} {c s m am : Nat} (hc : c ≤ 8) (hs : s < 8) (hm : m < 256) (ham : am < 256) (hT : hp_RT T) (hV : hp_RV V) {pa pb : Nat → Bool}
    (ha : ∀ r, pa r = (am.testBit r && !m.testBit r)) (hb : ∀ r, pb r = (am.testBit r && m.testBit r))
    (k : post (nI c, aw, nI (hp_S T V c pa s 0), nI (hp_S T V c pa s 1), nI (hp_S T V c pb s 0), nI (hp_S T V c pb s 1), T, V, xc, xb, xw)) :
    ∀ d i n, i + d = c → d < n → wX_weigh_23 post (nI s) (nI m) (nI am) n (nI i) (nI c) aw (nI (hp_S T V i pa s 0)) (nI (hp_S T V i pa s 1)) (nI (hp_S T V i pb s 0)) (nI (hp_S T V i pb s 1)) T V xc xb xw := by
  intro d
  induction d with
  | zero =>
    intro i n hi hn
    obtain ⟨n, rfl⟩ : ∃ q, n = q + 1 := ⟨n - 1, by omega⟩
    have e : i = c := by omega
    subst e
    exact br_t (nI_le (Nat.le_refl i) (by omega)) k
  | succ d ih =>
    intro i n hi hn
    obtain ⟨n, rfl⟩ : ∃ q, n = q + 1 := ⟨n - 1, by omega⟩
    have K := ih (i + 1) n (by omega) (by omega)
    have i64 : i * 8 + s < 64 := by omega
    have ei := hp_ix8 i s
    have et := (hT (i * 8 + s)).1
    have hm31 : m < 2 ^ 31 := by omega
    have ham31 : am < 2 ^ 31 := by omega
    have i32 : i < 32 := by omega
    refine br_f (nI_ge (by omega) (by omega)) ?_
    cases hai : am.testBit i
    · have pa0 : pa i = false := by rw [ha, hai]; rfl
      have pb0 : pb i = false := by rw [hb, hai]; rfl
      rw [hp_S_0 pa0, hp_S_0 pa0, hp_S_0 pb0, hp_S_0 pb0] at K
      exact br_f (hp_b0n ham31 i32 hai) (nm_r (nI_1 i) K)
    · refine br_t (hp_b1 ham31 i32 hai) ?_
      cases hmi : m.testBit i
      · have pa1 : pa i = true := by rw [ha, hai, hmi]; rfl
        have pb0 : pb i = false := by rw [hb, hai, hmi]; rfl
        rcases hV (i * 8 + s) with v | v
        · have n1 : ¬ V (i * 8 + s) = 1 := by rw [v]; decide
          rw [hp_S_1 pa1 v, hp_S_2 (p := pa) n1, hp_S_0 pb0, hp_S_0 pb0] at K
          exact hp_wr0 i64 ei (hp_b0 hm31 i32 hmi) v (by rw [et, nI_add]) (nm_r (nI_1 i) K)
        · have n0 : ¬ V (i * 8 + s) = 0 := by rw [v]; decide
          rw [hp_S_1 pa1 v, hp_S_2 (p := pa) n0, hp_S_0 pb0, hp_S_0 pb0] at K
          exact hp_wr1 i64 ei (hp_b0 hm31 i32 hmi) n0 (by rw [et, nI_add]) (nm_r (nI_1 i) K)
      · have pa0 : pa i = false := by rw [ha, hai, hmi]; rfl
        have pb1 : pb i = true := by rw [hb, hai, hmi]; rfl
        rcases hV (i * 8 + s) with v | v
        · have n1 : ¬ V (i * 8 + s) = 1 := by rw [v]; decide
          rw [hp_S_1 pb1 v, hp_S_2 (p := pb) n1, hp_S_0 pa0, hp_S_0 pa0] at K
          exact hp_wr2 i64 ei (hp_b1 hm31 i32 hmi) v (by rw [et, nI_add]) (nm_r (nI_1 i) K)
        · have n0 : ¬ V (i * 8 + s) = 0 := by rw [v]; decide
          rw [hp_S_1 pb1 v, hp_S_2 (p := pb) n0, hp_S_0 pa0, hp_S_0 pa0] at K
          exact hp_wr3 i64 ei (hp_b1 hm31 i32 hmi) n0 (by rw [et, nI_add]) (nm_r (nI_1 i) K)
theorem hp_siteCost {post : Int32 → SX → Prop} {c s m am : Nat} {f : Int32} (hc : c ≤ 8) (hs : s < 8) (hm : m < 256) (ham : am < 256) (hT : hp_RT T) (hV : hp_RV V) {pa pb : Nat → Bool}
    (ha : ∀ r, pa r = (am.testBit r && !m.testBit r)) (hb : ∀ r, pb r = (am.testBit r && m.testBit r))
    (k : ∀ a0 a1 b0 b1 : Int32, post (nI (hp_sc T V c f s pa pb)) (nI c, aw, a0, a1, b0, b1, T, V, xc, xb, xw)) :
    wpX_siteCost post (nI c, aw, a0, a1, b0, b1, T, V, xc, xb, xw) (nI s) (nI m) (nI am) f := by
  have h1 : hp_S T V c pa s 0 ≤ 72 := hp_S_le hT hc
  have h2 : hp_S T V c pa s 1 ≤ 72 := hp_S_le hT hc
  have h3 : hp_S T V c pb s 0 ≤ 72 := hp_S_le hT hc
  have h4 : hp_S T V c pb s 1 ≤ 72 := hp_S_le hT hc
  refine Exists.intro (c + 1) (hp_weigh_l hc hs hm ham hT hV ha hb ?_ c 0 (c + 1) (Nat.zero_add c) (Nat.lt_succ_self c))
  refine br_c (fun hf => ?_) (fun hf => ?_)
  · refine hp_smX rfl rfl (by omega) (by omega) (hp_smX rfl rfl (by omega) (by omega) ?_)
    have K := k (nI (hp_S T V c pa s 0)) (nI (hp_S T V c pa s 1)) (nI (hp_S T V c pb s 0)) (nI (hp_S T V c pb s 1))
    unfold hp_sc hp_mn at K
    rw [if_pos hf, ← nI_add] at K
    exact K
  · refine hp_smX (nI_add _ _) (nI_add _ _) (by omega) (by omega) ?_
    have K := k (nI (hp_S T V c pa s 0)) (nI (hp_S T V c pa s 1)) (nI (hp_S T V c pb s 0)) (nI (hp_S T V c pb s 1))
    unfold hp_sc hp_mn at K
    rw [if_neg hf] at K
    exact K
/-! the first site -/
def hp_fs (T : Nat → Int32) (r : Nat) : Nat → Nat → Nat
  | 0, s => s
  | d + 1, s => if T (r * 8 + s) = 0 then hp_fs T r d (s + 1) else s
theorem hp_fs_w {post : Int32 → Prop} {r : Nat} (hr : r < 8) : ∀ d s n, s + d = 8 → d < n → post (nI (hp_fs T r d s)) → wX_firstSite_2 post (nI r) R aw a0 a1 b0 b1 T V xc xb xw n (nI s) := by
  intro d
  induction d with
  | zero =>
    intro s n hs hn k
    obtain ⟨n, rfl⟩ : ∃ q, n = q + 1 := ⟨n - 1, by omega⟩
    have e : s = 8 := by omega
    subst e
    exact br_t (nI_le (a := 8) (b := 8) (by omega) (by omega)) k
  | succ d ih =>
    intro s n hs hn k
    obtain ⟨n, rfl⟩ : ∃ q, n = q + 1 := ⟨n - 1, by omega⟩
    have ei := hp_ix8 r s
    have hi : vp_in (nI r * 8 + nI s) 64 := by rw [ei]; exact vp_in_nI (by omega) (by omega)
    have hc : (nI r * 8 + nI s).toNatClampNeg = r * 8 + s := by rw [ei]; exact nI_clamp (by omega)
    refine br_f (nI_ge (b := 8) (by omega) (by omega)) (And.intro hi ?_)
    by_cases z : T (r * 8 + s) = 0
    · have e : hp_fs T r (d + 1) s = hp_fs T r d (s + 1) := if_pos z
      rw [e] at k
      exact br_t (by rw [hc]; exact z) (nm_r (nI_1 s) (ih (s + 1) n (by omega) (by omega) k))
    · have e : hp_fs T r (d + 1) s = s := if_neg z
      rw [e] at k
      exact br_f (by rw [hc]; exact z) k
def hp_F (T : Nat → Int32) (r : Nat) : Nat := hp_fs T r 8 0
theorem hp_first {post : Int32 → Prop} {r : Nat} (hr : r < 8) (k : post (nI (hp_F T r))) : wpX_firstSite post (R, aw, a0, a1, b0, b1, T, V, xc, xb, xw) (nI r) :=
  Exists.intro 9 (hp_fs_w hr 8 0 9 rfl (by decide) k)
theorem hp_fs_p (T : Nat → Int32) (r : Nat) : ∀ d s, s + d = 8 → (∀ q, q < s → T (r * 8 + q) = 0) →
    hp_fs T r d s ≤ 8 ∧ (∀ q, q < hp_fs T r d s → T (r * 8 + q) = 0) ∧ (hp_fs T r d s < 8 → ¬ T (r * 8 + hp_fs T r d s) = 0) := by
  intro d
  induction d with
  | zero =>
    intro s hs h
    have e : hp_fs T r 0 s = s := rfl
    rw [e]
    exact ⟨by omega, h, fun z => by omega⟩
  | succ d ih =>
    intro s hs h
    by_cases z : T (r * 8 + s) = 0
    · have e : hp_fs T r (d + 1) s = hp_fs T r d (s + 1) := if_pos z
      rw [e]
      refine ih (s + 1) (by omega) (fun q hq => ?_)
      by_cases e2 : q = s
      · rw [e2]; exact z
      · exact h q (by omega)
    · have e : hp_fs T r (d + 1) s = s := if_neg z
      rw [e]
      exact ⟨by omega, h, fun _ => z⟩
/-! the last site, one up -/
def hp_ls (T : Nat → Int32) (r : Nat) : Nat → Nat
  | 0 => 0
  | d + 1 => if T (r * 8 + d) = 0 then hp_ls T r d else d + 1
def hp_ix (d : Nat) : Int32 := nI d + (-1)
theorem hp_ls_w {post : Int32 → Prop} {r : Nat} (hr : r < 8) : ∀ d n, d ≤ 8 → d < n → post (hp_ix (hp_ls T r d)) → wX_lastSite_3 post (nI r) R aw a0 a1 b0 b1 T V xc xb xw n (hp_ix d) := by
  intro d
  induction d with
  | zero =>
    intro n hs hn k
    obtain ⟨n, rfl⟩ : ∃ q, n = q + 1 := ⟨n - 1, by omega⟩
    exact br_t (by decide) k
  | succ d ih =>
    intro n hs hn k
    obtain ⟨n, rfl⟩ : ∃ q, n = q + 1 := ⟨n - 1, by omega⟩
    have ex : hp_ix (d + 1) = nI d := pk_m1 d
    rw [ex]
    have ei := hp_ix8 r d
    have hi : vp_in (nI r * 8 + nI d) 64 := by rw [ei]; exact vp_in_nI (by omega) (by omega)
    have hc : (nI r * 8 + nI d).toNatClampNeg = r * 8 + d := by rw [ei]; exact nI_clamp (by omega)
    refine br_f (nI_pos (by omega)) (And.intro hi ?_)
    by_cases z : T (r * 8 + d) = 0
    · have e : hp_ls T r (d + 1) = hp_ls T r d := if_pos z
      rw [e] at k
      exact br_t (by rw [hc]; exact z) (nm_r (e' := hp_ix d) rfl (ih n (by omega) (by omega) k))
    · have e : hp_ls T r (d + 1) = d + 1 := if_neg z
      rw [e, ex] at k
      exact br_f (by rw [hc]; exact z) k
def hp_L (T : Nat → Int32) (r : Nat) : Nat := hp_ls T r 8
theorem hp_last {post : Int32 → Prop} {r : Nat} (hr : r < 8) (k : post (hp_ix (hp_L T r))) : wpX_lastSite post (R, aw, a0, a1, b0, b1, T, V, xc, xb, xw) (nI r) := by
  have K := hp_ls_w (R := R) (aw := aw) (a0 := a0) (a1 := a1) (b0 := b0) (b1 := b1) (V := V) (xc := xc) (xb := xb) (xw := xw) hr 8 9 (by omega) (by omega) k
  rw [show hp_ix 8 = 7 from by decide] at K
  exact Exists.intro 9 K
theorem hp_ls_p (T : Nat → Int32) (r : Nat) : ∀ d, hp_ls T r d ≤ d ∧ (∀ q, hp_ls T r d ≤ q → q < d → T (r * 8 + q) = 0) ∧ (0 < hp_ls T r d → ¬ T (r * 8 + (hp_ls T r d - 1)) = 0) := by
  intro d
  induction d with
  | zero =>
    have e : hp_ls T r 0 = 0 := rfl
    rw [e]
    exact ⟨by omega, fun q _ z => by omega, fun z => by omega⟩
  | succ d ih =>
    by_cases z : T (r * 8 + d) = 0
    · have e : hp_ls T r (d + 1) = hp_ls T r d := if_pos z
      rw [e]
      refine ⟨by omega, fun q h1 h2 => ?_, ih.2.2⟩
      by_cases e2 : q = d
      · rw [e2]; exact z
      · exact ih.2.1 q h1 (by omega)
    · have e : hp_ls T r (d + 1) = d + 1 := if_neg z
      rw [e]
      exact ⟨by omega, fun q h1 h2 => by omega, fun _ => z⟩
end
theorem hp_t0 {T : Nat → Int32} {j : Nat} (h : T j = 0) : hp_t T j = 0 := by
  unfold hp_t
  rw [h]
  rfl
theorem hp_FL (T : Nat → Int32) (r : Nat) : (hp_F T r = 8 ∧ hp_L T r = 0) ∨ (hp_F T r < hp_L T r ∧ hp_L T r ≤ 8) := by
  obtain ⟨f1, f2, f3⟩ := hp_fs_p T r 8 0 rfl (fun q hq => absurd hq (Nat.not_lt_zero q))
  obtain ⟨l1, l2, l3⟩ := hp_ls_p T r 8
  have eF : hp_F T r = hp_fs T r 8 0 := rfl
  have eL : hp_L T r = hp_ls T r 8 := rfl
  rw [← eF] at f1 f2 f3
  rw [← eL] at l1 l2 l3
  rcases Nat.lt_or_ge (hp_F T r) 8 with z | z
  · refine Or.inr ⟨?_, l1⟩
    rcases Nat.lt_or_ge (hp_F T r) (hp_L T r) with y | y
    · exact y
    · exact absurd (l2 _ y z) (f3 z)
  · refine Or.inl ⟨by omega, ?_⟩
    rcases Nat.eq_zero_or_pos (hp_L T r) with y | y
    · exact y
    · exact absurd (f2 _ (by omega)) (l3 y)
/-- outside its first and last site a read says nothing -/
theorem hp_out (T : Nat → Int32) {r q : Nat} (hq : q < 8) (h : q < hp_F T r ∨ hp_L T r ≤ q) : hp_t T (r * 8 + q) = 0 := by
  apply hp_t0
  rcases h with z | z
  · exact (hp_fs_p T r 8 0 rfl (fun q hq => absurd hq (Nat.not_lt_zero q))).2.1 q z
  · exact (hp_ls_p T r 8).2.1 q z hq
theorem hp_ix_eq {d s : Nat} (hd : d ≤ 8) (hs : s < 8) : hp_ix d = nI s ↔ d = s + 1 := by
  cases d with
  | zero =>
    constructor
    · intro h
      exfalso
      have a : (hp_ix 0).toInt = -1 := by decide
      rw [h, nI_toInt (by omega)] at a
      omega
    · intro h
      omega
  | succ d =>
    have e : hp_ix (d + 1) = nI d := pk_m1 d
    rw [e, nI_eq (by omega) (by omega)]
    omega
end
section
/-! ===== X: beginRead, endRead, addSite ===== -/
section
variable {R aw a0 a1 b0 b1 : Int32} {T V xc xb xw : Nat → Int32}
theorem hp_b46 {post : SX → Prop} {J : Int32 → (Nat → Int32) → (Nat → Int32) → (Nat → Int32) → (Nat → Int32) → (Nat → Int32) → Prop} {r i : Nat} {x1 z0 v1 v2 : Int32} (hr : r < 8) (hi : i < 256)
    (h1 : v1 = (xb i ||| nI (2 ^ r))) (h2 : v2 = xw i) (k : J (nI (i + 1)) T V (upd xc (i ||| 2 ^ r) z0) (upd xb (i ||| 2 ^ r) v1) (upd xw (i ||| 2 ^ r) v2)) :
    wX_beginRead_46 post J x1 (nI (2 ^ r)) (nI i) z0 (nI i ||| nI (2 ^ r)) R aw a0 a1 b0 b1 T V xc xb xw := by
  have eo := hp_or i (2 ^ r)
  have lt := hp_set_lt hi hr
  have io : vp_in (nI i ||| nI (2 ^ r)) 256 := by rw [eo]; exact vp_in_nI lt (by omega)
  have co : (nI i ||| nI (2 ^ r)).toNatClampNeg = i ||| 2 ^ r := by rw [eo]; exact nI_clamp (by omega)
  have ii : vp_in (nI i) 256 := vp_in_nI hi (by omega)
  have ci : (nI i).toNatClampNeg = i := nI_clamp (by omega)
  exact And.intro io (nm_r (e' := upd xc (i ||| 2 ^ r) z0) (by rw [co]) (And.intro ii (And.intro io (nm_r (e' := upd xb (i ||| 2 ^ r) v1) (by rw [co, ci, h1]) (And.intro ii (And.intro io (nm_r (e' := upd xw (i ||| 2 ^ r) v2) (by rw [co, ci, h2]) (nm_r (nI_1 i) k))))))))
theorem hp_begin_l {post : SX → Prop} {r am : Nat} (hr : r < 8) (ham : am < 256) (hA : am.testBit r = false)
    (k : ∀ yc yb yw, hp_BG r am 256 xc xb xw yc yb yw → post (R, nI (am ||| 2 ^ r), a0, a1, b0, b1, T, V, yc, yb, yw)) :
    ∀ d i n yc yb yw, i + d = 256 → d < n → hp_BG r am i xc xb xw yc yb yw → wX_beginRead_6 post (nI r) (nI (2 ^ r)) R (nI am) a0 a1 b0 b1 n (nI i) T V yc yb yw := by
  intro d
  induction d with
  | zero =>
    intro i n yc yb yw hi hn hB
    obtain ⟨n, rfl⟩ : ∃ q, n = q + 1 := ⟨n - 1, by omega⟩
    have e : i = 256 := by omega
    subst e
    exact br_t (nI_le (a := 256) (b := 256) (by omega) (by omega)) (nm_r (hp_or am (2 ^ r)) (k yc yb yw hB))
  | succ d ih =>
    intro i n yc yb yw hi hn hB
    obtain ⟨n, rfl⟩ : ∃ q, n = q + 1 := ⟨n - 1, by omega⟩
    have hi2 : i < 256 := by omega
    have ii : vp_in (nI i) 256 := vp_in_nI hi2 (by omega)
    have ci : (nI i).toNatClampNeg = i := nI_clamp (by omega)
    refine br_f (nI_ge (b := 256) hi2 (by omega)) ?_
    by_cases hz : hp_sb i am
    · refine br_t ((hp_sub hi2).mpr hz) ?_
      have nr : i.testBit r = false := by
        apply hp_nb
        intro e
        rw [hz r e] at hA
        cases hA
      obtain ⟨q0, q1, q2⟩ := hB.1 i nr
      by_cases h0 : r = 0
      · have c0 : nI r = 0 := by rw [h0]; rfl
        have B2 := hp_BG_s (v0 := 1000000) (v1 := xb i ||| nI (2 ^ r)) (v2 := xw i) hB hA hz (if_pos h0).symm rfl rfl
        exact br_t c0 (hp_b46 hr hi2 (by rw [q1]) (by rw [q2]) (ih (i + 1) n _ _ _ (by omega) (by omega) B2))
      · have B2 := hp_BG_s (v0 := yc (nI i).toNatClampNeg) (v1 := xb i ||| nI (2 ^ r)) (v2 := xw i) hB hA hz (by rw [if_neg h0, ci, q0]) rfl rfl
        exact br_f (nI_ne0 (by omega) (by omega)) (And.intro ii (hp_b46 hr hi2 (by rw [q1]) (by rw [q2]) (ih (i + 1) n _ _ _ (by omega) (by omega) B2)))
    · exact br_f (fun z => hz ((hp_sub hi2).mp z)) (nm_r (nI_1 i) (ih (i + 1) n yc yb yw (by omega) (by omega) (hp_BG_n hB hz)))
theorem hp_I_b1 {g : Nat → Nat} {A B : Nat → Prop} {i : Nat} (hI : hp_I g A B aw xc xb xw) (hi : i < 8) (h : A i) : (aw >>> (nI i &&& 31)) &&& 1 = 1 := by
  obtain ⟨am, h1, rfl, h2, _⟩ := hI
  exact hp_b1 (by omega) (by omega) ((h2 i).mpr h)
theorem hp_I_b0 {g : Nat → Nat} {A B : Nat → Prop} {i : Nat} (hI : hp_I g A B aw xc xb xw) (hi : i < 8) (h : ¬ A i) : (aw >>> (nI i &&& 31)) &&& 1 = 0 := by
  obtain ⟨am, h1, rfl, h2, _⟩ := hI
  exact hp_b0 (by omega) (by omega) (hp_nb (fun z => h ((h2 i).mp z)))
theorem hp_I_b1n {g : Nat → Nat} {A B : Nat → Prop} {i : Nat} (hI : hp_I g A B aw xc xb xw) (hi : i < 8) (h : A i) : ¬ (aw >>> (nI i &&& 31)) &&& 1 = 0 := by
  rw [hp_I_b1 hI hi h]
  decide
theorem hp_I_b0n {g : Nat → Nat} {A B : Nat → Prop} {i : Nat} (hI : hp_I g A B aw xc xb xw) (hi : i < 8) (h : ¬ A i) : ¬ (aw >>> (nI i &&& 31)) &&& 1 = 1 := by
  rw [hp_I_b0 hI hi h]
  decide
theorem hp_beginX {post : SX → Prop} {g : Nat → Nat} {A B A' B' : Nat → Prop} {r : Nat} (hr : r < 8) (hI : hp_I g A B aw xc xb xw) (hBr : ¬ B r)
    (hA' : ∀ j, A' j ↔ (A j ∨ j = r)) (hB' : ∀ j, B' j ↔ (B j ∨ j = r)) (hg : ∀ M, g (M ||| 2 ^ r) = g M)
    (k : ∀ aw yc yb yw, hp_I g A' B' aw yc yb yw → post (R, aw, a0, a1, b0, b1, T, V, yc, yb, yw)) : wpX_beginRead post (R, aw, a0, a1, b0, b1, T, V, xc, xb, xw) (nI r) := by
  obtain ⟨am, h1, rfl, h2, h3, h4, h5⟩ := hI
  have hA : am.testBit r = false := hp_nb (fun z => hBr (h3 r ((h2 r).mp z)))
  refine nm_r (hp_shl r (by omega)) (Exists.intro 257 (hp_begin_l hr h1 hA ?_ 256 0 257 xc xb xw rfl (by omega) (hp_BG_0 r am xc xb xw)))
  intro yc yb yw hb
  refine k _ yc yb yw ⟨am ||| 2 ^ r, hp_set_lt h1 hr, rfl, fun j => ?_, fun j hj => ?_, fun j hj => ?_, hp_TB_begin h5 hr h2 h3 h4 hBr hA' hB' hg hb⟩
  · by_cases e : j = r
    · rw [e, hp_set_self]
      exact ⟨fun _ => (hA' r).mpr (Or.inr rfl), fun _ => rfl⟩
    · rw [hp_set_ne e, h2 j, hA' j]
      exact ⟨Or.inl, fun z => z.resolve_right e⟩
  · rcases (hA' j).mp hj with z | z
    · exact (hB' j).mpr (Or.inl (h3 j z))
    · exact (hB' j).mpr (Or.inr z)
  · rcases (hB' j).mp hj with z | z
    · exact h4 j z
    · omega
theorem hp_joinX {post : SX → Prop} {p1 : Int32} {m o : Nat} (hm : m < 256) (ho : o < 256) (e1 : p1 = nI o)
    (k : ∀ zc zb zw : Nat → Int32, (∀ j, j ≠ m → zc j = xc j ∧ zb j = xb j ∧ zw j = xw j) → zc m = hp_jc (xc m) (xc o) → zb m = hp_jb (xc m) (xc o) (xb m) (xb o) →
      zw m = hp_jw (xc m) (xc o) (xw m) (xw o) → post (R, aw, a0, a1, b0, b1, T, V, zc, zb, zw)) :
    wpX_join post (R, aw, a0, a1, b0, b1, T, V, xc, xb, xw) (nI m) p1 := by
  subst e1
  have im : vp_in (nI m) 256 := vp_in_nI hm (by omega)
  have io : vp_in (nI o) 256 := vp_in_nI ho (by omega)
  have cm : (nI m).toNatClampNeg = m := nI_clamp (by omega)
  have co : (nI o).toNatClampNeg = o := nI_clamp (by omega)
  refine And.intro io (And.intro im (br_c (fun h => ?_) (fun h => ?_)))
  · rw [cm, co] at h
    refine And.intro io (And.intro im (br_c (fun h2 => ?_) (fun h2 => ?_)))
    · rw [cm, co] at h2
      have W : ∀ zb : Nat → Int32, (∀ j, j ≠ m → zb j = xb j) → zb m = hp_jb (xc m) (xc o) (xb m) (xb o) → wX_join_96 post (nI m) (nI o) R aw a0 a1 b0 b1 T V xc zb xw := by
        intro zb hz hzm
        refine And.intro im (And.intro io (And.intro im (nm_r (e' := upd xw m (xw m + xw o)) (by rw [cm, co]) ?_)))
        refine k xc zb _ (fun j hj => ⟨rfl, hz j hj, pk_un hj⟩) (if_pos h).symm hzm ?_
        rw [pk_us]
        exact ((if_pos h).trans (if_pos h2)).symm
      refine And.intro io (And.intro im (br_c (fun h3 => ?_) (fun h3 => ?_)))
      · rw [cm, co] at h3
        exact W xb (fun _ _ => rfl) ((if_pos h).trans ((if_pos h2).trans (if_pos h3))).symm
      · rw [cm, co] at h3
        refine And.intro io (And.intro im (nm_r (e' := upd xb m (xb o)) (by rw [cm, co]) (W _ (fun j hj => pk_un hj) ?_)))
        rw [pk_us]
        exact ((if_pos h).trans ((if_pos h2).trans (if_neg h3))).symm
    · rw [cm, co] at h2
      exact k xc xb xw (fun _ _ => ⟨rfl, rfl, rfl⟩) (if_pos h).symm ((if_pos h).trans (if_neg h2)).symm ((if_pos h).trans (if_neg h2)).symm
  · rw [cm, co] at h
    refine And.intro io (And.intro im (nm_r (e' := upd xc m (xc o)) (by rw [cm, co]) (And.intro io (And.intro im (nm_r (e' := upd xb m (xb o)) (by rw [cm, co]) (And.intro io (And.intro im (nm_r (e' := upd xw m (xw o)) (by rw [cm, co]) ?_))))))))
    exact k _ _ _ (fun j hj => ⟨pk_un hj, pk_un hj, pk_un hj⟩) (pk_us.trans (if_neg h).symm) (pk_us.trans (if_neg h).symm) (pk_us.trans (if_neg h).symm)
theorem hp_end_l {post : SX → Prop} {r am : Nat} (hr : r < 8) (ham : am < 256) (hA : am.testBit r = false)
    (k : ∀ yc yb yw, hp_EN r am 256 xc xb xw yc yb yw → post (R, nI am, a0, a1, b0, b1, T, V, yc, yb, yw)) :
    ∀ d i n yc yb yw, i + d = 256 → d < n → hp_EN r am i xc xb xw yc yb yw → wX_endRead_18 post (nI (2 ^ r)) n (nI i) R (nI am) a0 a1 b0 b1 T V yc yb yw := by
  intro d
  induction d with
  | zero =>
    intro i n yc yb yw hi hn hB
    obtain ⟨n, rfl⟩ : ∃ q, n = q + 1 := ⟨n - 1, by omega⟩
    have e : i = 256 := by omega
    subst e
    exact br_t (nI_le (a := 256) (b := 256) (by omega) (by omega)) (k yc yb yw hB)
  | succ d ih =>
    intro i n yc yb yw hi hn hB
    obtain ⟨n, rfl⟩ : ∃ q, n = q + 1 := ⟨n - 1, by omega⟩
    have hi2 : i < 256 := by omega
    refine br_f (nI_ge (b := 256) hi2 (by omega)) ?_
    by_cases hz : hp_sb i am
    · exact br_t ((hp_sub hi2).mpr hz) (hp_joinX hi2 (hp_set_lt hi2 hr) (hp_or i (2 ^ r)) (fun zc zb zw hzz z0 z1 z2 =>
        nm_r (nI_1 i) (ih (i + 1) n zc zb zw (by omega) (by omega) (hp_EN_s hB hA hz hzz z0 z1 z2))))
    · exact br_f (fun z => hz ((hp_sub hi2).mp z)) (nm_r (nI_1 i) (ih (i + 1) n yc yb yw (by omega) (by omega) (hp_EN_n hB hz)))
theorem hp_endX {post : SX → Prop} {g : Nat → Nat} {A B A' : Nat → Prop} {r : Nat} (hr : r < 8) (hI : hp_I g A B aw xc xb xw) (hAr : A r)
    (hA' : ∀ j, A' j ↔ (A j ∧ j ≠ r)) (hg : ∀ M, g M < 10000)
    (k : ∀ aw yc yb yw, hp_I g A' B aw yc yb yw → post (R, aw, a0, a1, b0, b1, T, V, yc, yb, yw)) : wpX_endRead post (R, aw, a0, a1, b0, b1, T, V, xc, xb, xw) (nI r) := by
  obtain ⟨am, h1, rfl, h2, h3, h4, h5⟩ := hI
  have lt : hp_cl am r < 256 := Nat.lt_of_le_of_lt (hp_cl_le am r) h1
  have tb : ∀ j, (hp_cl am r).testBit j = true ↔ A' j := by
    intro j
    rw [hA' j, ← h2 j]
    by_cases e : j = r
    · rw [e, hp_cl_self h1]
      exact ⟨fun z => absurd z (by decide), fun z => absurd rfl z.2⟩
    · rw [hp_cl_ne h1 e]
      exact ⟨fun z => ⟨z, e⟩, fun z => z.1⟩
  refine nm_r (hp_shl r (by omega)) (nm_r (hp_cl_e am r) (Exists.intro 257 (hp_end_l hr lt (hp_cl_self h1) ?_ 256 0 257 xc xb xw rfl (by omega) (hp_EN_0 r (hp_cl am r) xc xb xw))))
  intro yc yb yw hb
  exact k _ yc yb yw ⟨hp_cl am r, lt, rfl, tb, fun j hj => h3 j ((hA' j).mp hj).1, h4, hp_TB_end h5 hr tb h4 hAr hA' hg hb⟩
def hp_D (T V : Nat → Int32) (c : Nat) (f : Int32) (s am m : Nat) : Nat := hp_sc T V c f s (fun r => am.testBit r && !m.testBit r) (fun r => am.testBit r && m.testBit r)
theorem hp_add_l {post : SX → Prop} {c s am : Nat} {f : Int32} (hc : c ≤ 8) (hs : s < 8) (ham : am < 256) (hT : hp_RT T) (hV : hp_RV V)
    (k : ∀ a0 a1 b0 b1 yc, hp_AD am 256 (hp_D T V c f s am) xc yc → post (nI c, nI am, a0, a1, b0, b1, T, V, yc, xb, xw)) :
    ∀ d i n a0 a1 b0 b1 yc, i + d = 256 → d < n → hp_AD am i (hp_D T V c f s am) xc yc → wX_addSite_2 post (nI s) f n (nI i) (nI c) (nI am) a0 a1 b0 b1 T V yc xb xw := by
  intro d
  induction d with
  | zero =>
    intro i n a0 a1 b0 b1 yc hi hn hB
    obtain ⟨n, rfl⟩ : ∃ q, n = q + 1 := ⟨n - 1, by omega⟩
    have e : i = 256 := by omega
    subst e
    exact br_t (nI_le (a := 256) (b := 256) (by omega) (by omega)) (k a0 a1 b0 b1 yc hB)
  | succ d ih =>
    intro i n a0 a1 b0 b1 yc hi hn hB
    obtain ⟨n, rfl⟩ : ∃ q, n = q + 1 := ⟨n - 1, by omega⟩
    have hi2 : i < 256 := by omega
    have ii : vp_in (nI i) 256 := vp_in_nI hi2 (by omega)
    have ci : (nI i).toNatClampNeg = i := nI_clamp (by omega)
    refine br_f (nI_ge (b := 256) hi2 (by omega)) ?_
    by_cases hz : hp_sb i am
    · refine br_t ((hp_sub hi2).mpr hz) (And.intro ii ?_)
      by_cases h6 : (1000000 : Int32) ≤ yc i
      · exact br_t (by rw [ci]; exact h6) (nm_r (nI_1 i) (ih (i + 1) n a0 a1 b0 b1 yc (by omega) (by omega) (hp_AD_k hB h6)))
      · exact br_f (by rw [ci]; exact h6) (And.intro ii (hp_siteCost hc hs hi2 ham hT hV (pa := fun r => am.testBit r && !i.testBit r) (pb := fun r => am.testBit r && i.testBit r) (fun _ => rfl) (fun _ => rfl)
          (fun a0 a1 b0 b1 => And.intro ii (nm_r (e' := upd yc i (yc i + nI (hp_sc T V c f s (fun r => am.testBit r && !i.testBit r) (fun r => am.testBit r && i.testBit r)))) (by rw [ci])
            (nm_r (nI_1 i) (ih (i + 1) n a0 a1 b0 b1 _ (by omega) (by omega) (hp_AD_s hB h6)))))))
    · exact br_f (fun z => hz ((hp_sub hi2).mp z)) (nm_r (nI_1 i) (ih (i + 1) n a0 a1 b0 b1 yc (by omega) (by omega) (hp_AD_n hB hz)))
theorem hp_addX {post : SX → Prop} {g g' : Nat → Nat} {A B : Nat → Prop} {c s : Nat} {f : Int32} (hc : c ≤ 8) (hs : s < 8) (hT : hp_RT T) (hV : hp_RV V) (hI : hp_I g A B aw xc xb xw)
    (hg : ∀ M, g M < 10000) (hg' : ∀ M, g' M = g M + hp_C T V c f s M) (hz : ∀ r, r < c → ¬ A r → hp_t T (r * 8 + s) = 0)
    (k : ∀ aw a0 a1 b0 b1 yc, hp_I g' A B aw yc xb xw → post (nI c, aw, a0, a1, b0, b1, T, V, yc, xb, xw)) : wpX_addSite post (nI c, aw, a0, a1, b0, b1, T, V, xc, xb, xw) (nI s) f := by
  obtain ⟨am, h1, rfl, h2, h3, h4, h5⟩ := hI
  refine Exists.intro 257 (hp_add_l hc hs h1 hT hV ?_ 256 0 257 a0 a1 b0 b1 xc rfl (by omega) (hp_AD_0 am (hp_D T V c f s am) xc))
  intro a0 a1 b0 b1 yc hb
  refine k _ a0 a1 b0 b1 yc ⟨am, h1, rfl, h2, h3, h4, hp_TB_add h5 h2 hg (fun m M hM => ?_) hb⟩
  rw [hg' M]
  have e : hp_C T V c f s M = hp_D T V c f s am m := by
    apply hp_sc_eq
    intro r hr
    by_cases hA : A r
    · refine Or.inl ?_
      have e1 := (h2 r).mpr hA
      have e2 := hM.1 r hA
      rw [e1, e2]
      exact ⟨rfl, rfl⟩
    · exact Or.inr (hz r hr hA)
  rw [e]
end
end
section
/-! ===== X: solve ===== -/
def hp_kb (K r : Nat) : Nat := if K.testBit r = true then 1 else 0
theorem hp_kb1 {K r : Nat} (h : K.testBit r = true) : hp_kb K r = 1 := if_pos h
theorem hp_kb0 {K r : Nat} (h : K.testBit r = false) : hp_kb K r = 0 := if_neg (by rw [h]; decide)
/-- at work, and begun, before the sites -/
def hp_A2 (T : Nat → Int32) (K i : Nat) (r : Nat) : Prop := r < i ∧ (hp_kb K r = 1 ∨ hp_F T r = 8)
/-- at work at the site s, the reads below i looked at -/
def hp_A8 (T : Nat → Int32) (K c s i : Nat) (r : Nat) : Prop := r < c ∧ (hp_kb K r = 1 ∨ hp_F T r = 8 ∨ ((hp_F T r < s ∨ (hp_F T r = s ∧ r < i)) ∧ s < hp_L T r))
def hp_B8 (T : Nat → Int32) (K c s i : Nat) (r : Nat) : Prop := r < c ∧ (hp_kb K r = 1 ∨ hp_F T r = 8 ∨ hp_F T r < s ∨ (hp_F T r = s ∧ r < i))
/-- behind the cost of the site s -/
def hp_A13 (T : Nat → Int32) (K c s i : Nat) (r : Nat) : Prop := r < c ∧ (hp_kb K r = 1 ∨ hp_F T r = 8 ∨ (hp_F T r ≤ s ∧ (s + 1 < hp_L T r ∨ (s + 1 = hp_L T r ∧ i ≤ r))))
def hp_B13 (T : Nat → Int32) (K c s : Nat) (r : Nat) : Prop := r < c ∧ (hp_kb K r = 1 ∨ hp_F T r = 8 ∨ hp_F T r ≤ s)
/-- behind the sites -/
def hp_A18 (T : Nat → Int32) (K c i : Nat) (r : Nat) : Prop := r < c ∧ (hp_kb K r = 1 ∨ (hp_F T r = 8 ∧ i ≤ r))
def hp_AK (K c : Nat) (r : Nat) : Prop := r < c ∧ hp_kb K r = 1
def hp_BC (c : Nat) (r : Nat) : Prop := r < c
section
variable {T V : Nat → Int32}
theorem hp_Glt {c s : Nat} {f : Int32} (hc : c ≤ 8) (hT : hp_RT T) (hs : s ≤ 8) : ∀ M, hp_G T V c f s M < 10000 := by
  intro M
  have := hp_G_le (V := V) (f := f) (M := M) hT hc hs
  omega
theorem hp_s189 {post : SX → Prop} {c K : Nat} {f : Int32} (hc : c ≤ 8) (hK : K < 256) (hT : hp_RT T)
    (k : ∀ aw a0 a1 b0 b1 xc xb xw, hp_I (hp_G T V c f 8) (hp_AK K c) (hp_BC c) aw xc xb xw → post (nI c, aw, a0, a1, b0, b1, T, V, xc, xb, xw)) :
    ∀ d i n aw a0 a1 b0 b1 xc xb xw, i + d = c → d < n → hp_I (hp_G T V c f 8) (hp_A18 T K c i) (hp_BC c) aw xc xb xw →
      wX_solve_189 post (nI K) n (nI i) (nI c) aw a0 a1 b0 b1 T V xc xb xw := by
  intro d
  induction d with
  | zero =>
    intro i n aw a0 a1 b0 b1 xc xb xw hi hn hI
    obtain ⟨n, rfl⟩ : ∃ q, n = q + 1 := ⟨n - 1, by omega⟩
    have e : i = c := by omega
    subst e
    refine br_t (nI_le (Nat.le_refl i) (by omega)) (k aw a0 a1 b0 b1 xc xb xw (hp_I_cong hI (fun r => ?_) (fun _ => Iff.rfl)))
    unfold hp_AK hp_A18
    omega
  | succ d ih =>
    intro i n aw a0 a1 b0 b1 xc xb xw hi hn hI
    obtain ⟨n, rfl⟩ : ∃ q, n = q + 1 := ⟨n - 1, by omega⟩
    have i8 : i < 8 := by omega
    have K31 : K < 2 ^ 31 := by omega
    refine br_f (nI_ge (by omega) (by omega)) ?_
    cases hKi : K.testBit i
    · have kb := hp_kb0 hKi
      refine br_t (hp_b0 K31 (by omega) hKi) ?_
      by_cases hA : hp_A18 T K c i i
      · refine br_t (hp_I_b1 hI i8 hA) (hp_endX i8 hI hA (A' := hp_A18 T K c (i + 1)) (fun j => ?_) (hp_Glt hc hT (by omega))
          (fun aw yc yb yw hI2 => nm_r (nI_1 i) (ih (i + 1) n aw a0 a1 b0 b1 yc yb yw (by omega) (by omega) hI2)))
        unfold hp_A18
        by_cases e : j = i
        · subst e
          omega
        · omega
      · refine br_f (hp_I_b0n hI i8 hA) (nm_r (nI_1 i) (ih (i + 1) n aw a0 a1 b0 b1 xc xb xw (by omega) (by omega) (hp_I_cong hI (fun j => ?_) (fun _ => Iff.rfl))))
        unfold hp_A18 at hA ⊢
        by_cases e : j = i
        · subst e
          omega
        · omega
    · have kb := hp_kb1 hKi
      refine br_f (hp_b1n K31 (by omega) hKi) (nm_r (nI_1 i) (ih (i + 1) n aw a0 a1 b0 b1 xc xb xw (by omega) (by omega) (hp_I_cong hI (fun j => ?_) (fun _ => Iff.rfl))))
      unfold hp_A18
      by_cases e : j = i
      · subst e
        omega
      · omega
theorem hp_s137 {post : SX → Prop} {J : Int32 → Int32 → Int32 → Int32 → Int32 → Int32 → Int32 → (Nat → Int32) → (Nat → Int32) → (Nat → Int32) → (Nat → Int32) → (Nat → Int32) → Prop}
    {c K s : Nat} {f : Int32} (hc : c ≤ 8) (hK : K < 256) (hT : hp_RT T) (hs : s < 8)
    (k : ∀ aw a0 a1 b0 b1 xc xb xw, hp_I (hp_G T V c f (s + 1)) (hp_A8 T K c (s + 1) 0) (hp_B8 T K c (s + 1) 0) aw xc xb xw → J (nI (s + 1)) (nI c) aw a0 a1 b0 b1 T V xc xb xw) :
    ∀ d i n aw a0 a1 b0 b1 xc xb xw, i + d = c → d < n → hp_I (hp_G T V c f (s + 1)) (hp_A13 T K c s i) (hp_B13 T K c s) aw xc xb xw →
      wX_solve_137 post J (nI K) f (nI s) n (nI i) (nI c) aw a0 a1 b0 b1 T V xc xb xw := by
  intro d
  induction d with
  | zero =>
    intro i n aw a0 a1 b0 b1 xc xb xw hi hn hI
    obtain ⟨n, rfl⟩ : ∃ q, n = q + 1 := ⟨n - 1, by omega⟩
    have e : i = c := by omega
    subst e
    refine br_t (nI_le (Nat.le_refl i) (by omega)) (nm_r (nI_1 s) (k aw a0 a1 b0 b1 xc xb xw (hp_I_cong hI (fun r => ?_) (fun r => ?_))))
    · unfold hp_A8 hp_A13
      omega
    · unfold hp_B8 hp_B13
      omega
  | succ d ih =>
    intro i n aw a0 a1 b0 b1 xc xb xw hi hn hI
    obtain ⟨n, rfl⟩ : ∃ q, n = q + 1 := ⟨n - 1, by omega⟩
    have i8 : i < 8 := by omega
    have K31 : K < 2 ^ 31 := by omega
    have FL := hp_FL T i
    have L8 : hp_L T i ≤ 8 := by omega
    refine br_f (nI_ge (by omega) (by omega)) (hp_last i8 ?_)
    by_cases hL : hp_L T i = s + 1
    · refine br_t ((hp_ix_eq L8 hs).mpr hL) ?_
      cases hKi : K.testBit i
      · have kb := hp_kb0 hKi
        have hA : hp_A13 T K c s i i := by
          unfold hp_A13
          omega
        refine br_t (hp_b0 K31 (by omega) hKi) (hp_endX i8 hI hA (A' := hp_A13 T K c s (i + 1)) (fun j => ?_) (hp_Glt hc hT (by omega))
          (fun aw yc yb yw hI2 => nm_r (nI_1 i) (ih (i + 1) n aw a0 a1 b0 b1 yc yb yw (by omega) (by omega) hI2)))
        unfold hp_A13
        by_cases e : j = i
        · subst e
          omega
        · omega
      · have kb := hp_kb1 hKi
        refine br_f (hp_b1n K31 (by omega) hKi) (nm_r (nI_1 i) (ih (i + 1) n aw a0 a1 b0 b1 xc xb xw (by omega) (by omega) (hp_I_cong hI (fun j => ?_) (fun _ => Iff.rfl))))
        unfold hp_A13
        by_cases e : j = i
        · subst e
          omega
        · omega
    · refine br_f (fun z => hL ((hp_ix_eq L8 hs).mp z)) (nm_r (nI_1 i) (ih (i + 1) n aw a0 a1 b0 b1 xc xb xw (by omega) (by omega) (hp_I_cong hI (fun j => ?_) (fun _ => Iff.rfl))))
      unfold hp_A13
      by_cases e : j = i
      · subst e
        omega
      · omega
theorem hp_s81 {post : SX → Prop} {J : Int32 → Int32 → Int32 → Int32 → Int32 → Int32 → Int32 → (Nat → Int32) → (Nat → Int32) → (Nat → Int32) → (Nat → Int32) → (Nat → Int32) → Prop}
    {c K s : Nat} {f : Int32} (hc : c ≤ 8) (hK : K < 256) (hT : hp_RT T) (hV : hp_RV V) (hs : s < 8)
    (k : ∀ aw a0 a1 b0 b1 xc xb xw, hp_I (hp_G T V c f (s + 1)) (hp_A8 T K c (s + 1) 0) (hp_B8 T K c (s + 1) 0) aw xc xb xw → J (nI (s + 1)) (nI c) aw a0 a1 b0 b1 T V xc xb xw) :
    ∀ d i n aw a0 a1 b0 b1 xc xb xw, i + d = c → d < n → hp_I (hp_G T V c f s) (hp_A8 T K c s i) (hp_B8 T K c s i) aw xc xb xw →
      wX_solve_81 post J (nI K) f (nI s) n (nI i) (nI c) aw a0 a1 b0 b1 T V xc xb xw := by
  intro d
  induction d with
  | zero =>
    intro i n aw a0 a1 b0 b1 xc xb xw hi hn hI
    obtain ⟨n, rfl⟩ : ∃ q, n = q + 1 := ⟨n - 1, by omega⟩
    have e : i = c := by omega
    subst e
    refine br_t (nI_le (Nat.le_refl i) (by omega)) (hp_addX hc hs hT hV hI (g' := hp_G T V i f (s + 1)) (hp_Glt hc hT (by omega)) (fun M => hp_G_s T V i f s M) (fun r hr hA => ?_)
      (fun aw a0 a1 b0 b1 yc hI2 => Exists.intro (i + 1) (hp_s137 hc hK hT hs k i 0 (i + 1) aw a0 a1 b0 b1 yc xb xw (Nat.zero_add i) (by omega) (hp_I_cong hI2 (fun r => ?_) (fun r => ?_)))))
    · unfold hp_A8 at hA
      have FL := hp_FL T r
      exact hp_out T hs (by omega)
    · unfold hp_A8 hp_A13
      omega
    · unfold hp_B8 hp_B13
      omega
  | succ d ih =>
    intro i n aw a0 a1 b0 b1 xc xb xw hi hn hI
    obtain ⟨n, rfl⟩ : ∃ q, n = q + 1 := ⟨n - 1, by omega⟩
    have i8 : i < 8 := by omega
    have FL := hp_FL T i
    have F8 : hp_F T i ≤ 8 := by omega
    refine br_f (nI_ge (by omega) (by omega)) (hp_first i8 ?_)
    by_cases hF : hp_F T i = s
    · refine br_t (by rw [hF]) ?_
      cases hKi : K.testBit i
      · have kb := hp_kb0 hKi
        have hA : ¬ hp_A8 T K c s i i := by
          unfold hp_A8
          omega
        have hB : ¬ hp_B8 T K c s i i := by
          unfold hp_B8
          omega
        refine br_t (hp_I_b0 hI i8 hA) (hp_beginX i8 hI hB (A' := hp_A8 T K c s (i + 1)) (B' := hp_B8 T K c s (i + 1)) (fun j => ?_) (fun j => ?_)
          (fun M => hp_G_or (fun q hq => hp_out T (by omega) (Or.inl (by omega))))
          (fun aw yc yb yw hI2 => nm_r (nI_1 i) (ih (i + 1) n aw a0 a1 b0 b1 yc yb yw (by omega) (by omega) hI2)))
        · unfold hp_A8
          by_cases e : j = i
          · subst e
            omega
          · omega
        · unfold hp_B8
          by_cases e : j = i
          · subst e
            omega
          · omega
      · have kb := hp_kb1 hKi
        have hA : hp_A8 T K c s i i := by
          unfold hp_A8
          omega
        refine br_f (hp_I_b1n hI i8 hA) (nm_r (nI_1 i) (ih (i + 1) n aw a0 a1 b0 b1 xc xb xw (by omega) (by omega) (hp_I_cong hI (fun j => ?_) (fun j => ?_))))
        · unfold hp_A8
          by_cases e : j = i
          · subst e
            omega
          · omega
        · unfold hp_B8
          by_cases e : j = i
          · subst e
            omega
          · omega
    · refine br_f (fun z => hF ((nI_eq (by omega) (by omega)).mp z)) (nm_r (nI_1 i) (ih (i + 1) n aw a0 a1 b0 b1 xc xb xw (by omega) (by omega) (hp_I_cong hI (fun j => ?_) (fun j => ?_))))
      · unfold hp_A8
        by_cases e : j = i
        · subst e
          omega
        · omega
      · unfold hp_B8
        by_cases e : j = i
        · subst e
          omega
        · omega
theorem hp_s72 {post : SX → Prop} {c K : Nat} {f : Int32} (hc : c ≤ 8) (hK : K < 256) (hT : hp_RT T) (hV : hp_RV V)
    (k : ∀ aw a0 a1 b0 b1 xc xb xw, hp_I (hp_G T V c f 8) (hp_AK K c) (hp_BC c) aw xc xb xw → post (nI c, aw, a0, a1, b0, b1, T, V, xc, xb, xw)) :
    ∀ d s n aw a0 a1 b0 b1 xc xb xw, s + d = 8 → d < n → hp_I (hp_G T V c f s) (hp_A8 T K c s 0) (hp_B8 T K c s 0) aw xc xb xw →
      wX_solve_72 post (nI K) f n (nI s) (nI c) aw a0 a1 b0 b1 T V xc xb xw := by
  intro d
  induction d with
  | zero =>
    intro s n aw a0 a1 b0 b1 xc xb xw hi hn hI
    obtain ⟨n, rfl⟩ : ∃ q, n = q + 1 := ⟨n - 1, by omega⟩
    have e : s = 8 := by omega
    subst e
    refine br_t (nI_le (a := 8) (b := 8) (by omega) (by omega)) (Exists.intro (c + 1) (hp_s189 hc hK hT k c 0 (c + 1) aw a0 a1 b0 b1 xc xb xw (Nat.zero_add c) (by omega) (hp_I_cong hI (fun r => ?_) (fun r => ?_))))
    · have FL := hp_FL T r
      unfold hp_A8 hp_A18
      omega
    · have FL := hp_FL T r
      unfold hp_B8 hp_BC
      omega
  | succ d ih =>
    intro s n aw a0 a1 b0 b1 xc xb xw hi hn hI
    obtain ⟨n, rfl⟩ : ∃ q, n = q + 1 := ⟨n - 1, by omega⟩
    exact br_f (nI_ge (b := 8) (by omega) (by omega)) (Exists.intro (c + 1) (hp_s81 hc hK hT hV (by omega)
      (fun aw a0 a1 b0 b1 xc xb xw hI2 => ih (s + 1) n aw a0 a1 b0 b1 xc xb xw (by omega) (by omega) hI2)
      c 0 (c + 1) aw a0 a1 b0 b1 xc xb xw (Nat.zero_add c) (by omega) hI))
theorem hp_s28 {post : SX → Prop} {c K : Nat} {f : Int32} (hc : c ≤ 8) (hK : K < 256) (hT : hp_RT T) (hV : hp_RV V)
    (k : ∀ aw a0 a1 b0 b1 xc xb xw, hp_I (hp_G T V c f 8) (hp_AK K c) (hp_BC c) aw xc xb xw → post (nI c, aw, a0, a1, b0, b1, T, V, xc, xb, xw)) :
    ∀ d i n aw a0 a1 b0 b1 xc xb xw, i + d = c → d < n → hp_I (hp_G T V c f 0) (hp_A2 T K i) (hp_A2 T K i) aw xc xb xw →
      wX_solve_28 post (nI K) f n (nI i) (nI c) aw a0 a1 b0 b1 T V xc xb xw := by
  intro d
  induction d with
  | zero =>
    intro i n aw a0 a1 b0 b1 xc xb xw hi hn hI
    obtain ⟨n, rfl⟩ : ∃ q, n = q + 1 := ⟨n - 1, by omega⟩
    have e : i = c := by omega
    subst e
    refine br_t (nI_le (Nat.le_refl i) (by omega)) (Exists.intro 9 (hp_s72 hc hK hT hV k 8 0 9 aw a0 a1 b0 b1 xc xb xw rfl (by omega) (hp_I_cong hI (fun r => ?_) (fun r => ?_))))
    · unfold hp_A8 hp_A2
      omega
    · unfold hp_B8 hp_A2
      omega
  | succ d ih =>
    intro i n aw a0 a1 b0 b1 xc xb xw hi hn hI
    obtain ⟨n, rfl⟩ : ∃ q, n = q + 1 := ⟨n - 1, by omega⟩
    have i8 : i < 8 := by omega
    have K31 : K < 2 ^ 31 := by omega
    have FL := hp_FL T i
    have F8 : hp_F T i ≤ 8 := by omega
    have W : (hp_kb K i = 1 ∨ hp_F T i = 8) → wX_solve_59 post (wX_solve_28 post (nI K) f n) (nI K) f (nI i) (nI c) aw a0 a1 b0 b1 T V xc xb xw := by
      intro hk
      have hB : ¬ hp_A2 T K i i := by
        unfold hp_A2
        omega
      have hA : ∀ j, hp_A2 T K (i + 1) j ↔ (hp_A2 T K i j ∨ j = i) := by
        intro j
        unfold hp_A2
        by_cases e : j = i
        · subst e
          omega
        · omega
      exact hp_beginX i8 hI hB hA hA (fun M => rfl) (fun aw yc yb yw hI2 => nm_r (nI_1 i) (ih (i + 1) n aw a0 a1 b0 b1 yc yb yw (by omega) (by omega) hI2))
    refine br_f (nI_ge (by omega) (by omega)) (hp_first i8 ?_)
    cases hKi : K.testBit i
    · have kb := hp_kb0 hKi
      refine br_f (hp_b0n K31 (by omega) hKi) ?_
      by_cases hF : hp_F T i = 8
      · exact br_t (by rw [hF]; rfl) (W (Or.inr hF))
      · refine br_f (fun z => hF ((nI_eq (b := 8) (by omega) (by omega)).mp z)) (nm_r (nI_1 i) (ih (i + 1) n aw a0 a1 b0 b1 xc xb xw (by omega) (by omega) (hp_I_cong hI (fun j => ?_) (fun j => ?_))))
        all_goals
          unfold hp_A2
          by_cases e : j = i
          · subst e
            omega
          · omega
    · exact br_t (hp_b1 K31 (by omega) hKi) (W (Or.inl (hp_kb1 hKi)))
theorem hp_solve {post : SX → Prop} {c K : Nat} {f aw a0 a1 b0 b1 : Int32} {xc xb xw : Nat → Int32} (hc : c ≤ 8) (hK : K < 256) (hT : hp_RT T) (hV : hp_RV V)
    (k : ∀ aw a0 a1 b0 b1 xc xb xw, hp_I (hp_G T V c f 8) (hp_AK K c) (hp_BC c) aw xc xb xw → post (nI c, aw, a0, a1, b0, b1, T, V, xc, xb, xw)) :
    wpX_solve post (nI c, aw, a0, a1, b0, b1, T, V, xc, xb, xw) (nI K) f := by
  have I0 : hp_I (hp_G T V c f 0) (hp_A2 T K 0) (hp_A2 T K 0) 0 (upd xc 0 0) (upd xb 0 0) (upd xw 0 1) := by
    have no : ∀ r, ¬ hp_A2 T K 0 r := by
      intro r
      unfold hp_A2
      omega
    refine ⟨0, by omega, rfl, fun r => ⟨fun z => ?_, fun z => absurd z (no r)⟩, fun r z => z, fun r z => absurd z (no r), fun m hm hin => ?_⟩
    · rw [Nat.zero_testBit] at z
      cases z
    · have m0 : m = 0 := by
        apply Nat.eq_of_testBit_eq
        intro r
        rw [Nat.zero_testBit]
        exact hp_nb (fun z => no r (hin r z))
      subst m0
      rw [pk_us, pk_us, pk_us]
      refine ⟨fun z => ?_, fun _ => ⟨0, 0, [0], ⟨⟨fun _ _ => rfl, fun r z => ?_, rfl⟩, rfl, fun _ _ => Nat.zero_le _, fun _ _ _ => Nat.zero_le _, by simp, fun M => ?_⟩, rfl, rfl, rfl⟩⟩
      · cases z
      · rw [Nat.zero_testBit] at z
        cases z
      · rw [List.mem_singleton]
        constructor
        · intro e
          rw [e]
          refine ⟨⟨fun _ _ => rfl, fun r z => ?_, rfl⟩, rfl⟩
          rw [Nat.zero_testBit] at z
          cases z
        · rintro ⟨p, _⟩
          apply Nat.eq_of_testBit_eq
          intro r
          rw [Nat.zero_testBit]
          exact hp_nb (fun z => no r (p.2.1 r z))
  exact nm_e (nm_e (nm_e (Exists.intro (c + 1) (hp_s28 hc hK hT hV k c 0 (c + 1) 0 a0 a1 b0 b1 _ _ _ (Nat.zero_add c) (by omega) I0))))
end
end
section
/-! ===== Y: trust, cost, isSorting, best, first, ties ===== -/
section
variable {T V : Nat → Int32}
theorem hp_trust_l {post : Int32 → Prop} {c s m : Nat} {x2 v : Int32} {p : Nat → Bool} (hc : c ≤ 8) (hs : s < 8) (hT : hp_RT T)
    (hp1 : ∀ r, r < 8 → p r = true → (nI m >>> (nI r &&& 31)) &&& 1 = x2) (hp0 : ∀ r, r < 8 → p r = false → ¬ (nI m >>> (nI r &&& 31)) &&& 1 = x2)
    (k : post (nI (hp_S T V c p s v))) :
    ∀ d i n, i + d = c → d < n → wY_trust_6 post (nI m) x2 (nI s) v (nI c) V T n (nI (hp_S T V i p s v)) (nI i) := by
  intro d
  induction d with
  | zero =>
    intro i n hi hn
    obtain ⟨n, rfl⟩ : ∃ q, n = q + 1 := ⟨n - 1, by omega⟩
    have e : i = c := by omega
    subst e
    exact br_t (nI_le (Nat.le_refl i) (by omega)) k
  | succ d ih =>
    intro i n hi hn
    obtain ⟨n, rfl⟩ : ∃ q, n = q + 1 := ⟨n - 1, by omega⟩
    have K := ih (i + 1) n (by omega) (by omega)
    have ii : vp_in (nI (i * 8 + s)) 64 := vp_in_nI (by omega) (by omega)
    have ci : (nI (i * 8 + s)).toNatClampNeg = i * 8 + s := nI_clamp (by omega)
    have et := (hT (i * 8 + s)).1
    refine br_f (nI_ge (by omega) (by omega)) (nm_r (hp_ix8 i s) ?_)
    cases hpi : p i
    · rw [hp_S_0 hpi] at K
      exact br_f (hp0 i (by omega) hpi) (nm_r (nI_1 i) K)
    · refine br_t (hp1 i (by omega) hpi) (And.intro ii ?_)
      by_cases hv : V (i * 8 + s) = v
      · rw [hp_S_1 hpi hv] at K
        exact br_t (by rw [ci]; exact hv) (And.intro ii (nm_r (e' := nI (hp_S T V i p s v + hp_t T (i * 8 + s))) (by rw [ci, et, nI_add]) (nm_r (nI_1 i) K)))
      · rw [hp_S_2 (p := p) hv] at K
        exact br_f (by rw [ci]; exact hv) (nm_r (nI_1 i) K)
theorem hp_tr0 {post : Int32 → Prop} {c s m : Nat} {v : Int32} (hc : c ≤ 8) (hs : s < 8) (hT : hp_RT T) (hm : m < 256)
    (k : post (nI (hp_S T V c (fun r => !m.testBit r) s v))) : wpY_trust post (nI c, V, T) (nI m) 0 (nI s) v :=
  Exists.intro (c + 1) (hp_trust_l hc hs hT (fun r hr h => hp_b0 (by omega) (by omega) (by cases z : m.testBit r; rfl; rw [z] at h; cases h))
    (fun r hr h => hp_b1n (by omega) (by omega) (by cases z : m.testBit r; rw [z] at h; cases h; rfl)) k c 0 (c + 1) (Nat.zero_add c) (by omega))
theorem hp_tr1 {post : Int32 → Prop} {c s m : Nat} {v : Int32} (hc : c ≤ 8) (hs : s < 8) (hT : hp_RT T) (hm : m < 256)
    (k : post (nI (hp_S T V c (fun r => m.testBit r) s v))) : wpY_trust post (nI c, V, T) (nI m) 1 (nI s) v :=
  Exists.intro (c + 1) (hp_trust_l hc hs hT (fun r hr h => hp_b1 (by omega) (by omega) h)
    (fun r hr h => hp_b0n (by omega) (by omega) h) k c 0 (c + 1) (Nat.zero_add c) (by omega))
theorem hp_smY {post : Int32 → Prop} {x y R : Int32} {a b : Nat} (ex : x = nI a) (ey : y = nI b) (ha : a < 2 ^ 31) (hb : b < 2 ^ 31) (k : post (nI (min a b))) : wpY_smaller post (R, V, T) x y := by
  subst ex ey
  show (nI b ≤ nI a → post (nI b)) ∧ (¬ nI b ≤ nI a → post (nI a))
  refine pk_le b a (fun h => ?_) (fun h => ?_) rfl rfl hb ha
  · rw [Nat.min_eq_right h] at k
    exact k
  · rw [Nat.min_eq_left (by omega)] at k
    exact k
theorem hp_cost_l {post : Int32 → Prop} {c m : Nat} {f : Int32} (hc : c ≤ 8) (hT : hp_RT T) (hm : m < 256) (k : post (nI (hp_G T V c f 8 m))) :
    ∀ d s n, s + d = 8 → d < n → wY_cost_5 post (nI m) f (nI c) V T n (nI (hp_G T V c f s m)) (nI s) := by
  intro d
  induction d with
  | zero =>
    intro s n hi hn
    obtain ⟨n, rfl⟩ : ∃ q, n = q + 1 := ⟨n - 1, by omega⟩
    have e : s = 8 := by omega
    subst e
    exact br_t (nI_le (a := 8) (b := 8) (by omega) (by omega)) k
  | succ d ih =>
    intro s n hi hn
    obtain ⟨n, rfl⟩ : ∃ q, n = q + 1 := ⟨n - 1, by omega⟩
    have hs : s < 8 := by omega
    have K := ih (s + 1) n (by omega) (by omega)
    have h1 : hp_S T V c (fun r => !m.testBit r) s 0 ≤ 72 := hp_S_le hT hc
    have h2 : hp_S T V c (fun r => !m.testBit r) s 1 ≤ 72 := hp_S_le hT hc
    have h3 : hp_S T V c (fun r => m.testBit r) s 0 ≤ 72 := hp_S_le hT hc
    have h4 : hp_S T V c (fun r => m.testBit r) s 1 ≤ 72 := hp_S_le hT hc
    refine br_f (nI_ge (b := 8) hs (by omega)) (hp_tr0 hc hs hT hm (hp_tr0 hc hs hT hm (hp_tr1 hc hs hT hm (hp_tr1 hc hs hT hm ?_))))
    refine br_c (fun hf => ?_) (fun hf => ?_)
    · refine hp_smY rfl rfl (by omega) (by omega) (hp_smY rfl rfl (by omega) (by omega) (nm_r (nI_add _ _) (nm_r (e' := nI (hp_G T V c f (s + 1) m)) ?_ (nm_r (nI_1 s) K))))
      rw [nI_add, hp_G_s]
      unfold hp_C hp_sc hp_mn
      rw [if_pos hf]
    · refine hp_smY (nI_add _ _) (nI_add _ _) (by omega) (by omega) (nm_r (e' := nI (hp_G T V c f (s + 1) m)) ?_ (nm_r (nI_1 s) K))
      rw [nI_add, hp_G_s]
      unfold hp_C hp_sc hp_mn
      rw [if_neg hf]
theorem hp_costY {post : Int32 → Prop} {c m : Nat} {f : Int32} (hc : c ≤ 8) (hT : hp_RT T) (hm : m < 256) (k : post (nI (hp_G T V c f 8 m))) : wpY_cost post (nI c, V, T) (nI m) f :=
  Exists.intro 9 (hp_cost_l hc hT hm k 8 0 9 rfl (by omega))
/-- M names a sorting with read 0 on strand A -/
def hp_so (c M : Nat) : Prop := (∀ r, M.testBit r = true → r < c) ∧ M.testBit 0 = false
theorem hp_so_lt {c M : Nat} (hc : c ≤ 8) (h : hp_so c M) : M < 256 := hp_lt256 (fun r hr => Nat.lt_of_lt_of_le (h.1 r hr) hc)
theorem hp_soA {M : Nat} (hM : M < 256) : (nI M &&& 1) = 0 ↔ M.testBit 0 = false := by
  have e : nI M &&& 1 = nI (M % 2) := pk_andN (by omega) 1 (by decide)
  rw [e, ← nI_0, nI_eq (by omega) (by omega), Nat.testBit_zero, decide_eq_false_iff_not]
  omega
theorem hp_soB {c M : Nat} (hc : c ≤ 8) (hM : M < 256) : (nI M >>> (nI c &&& 31)) = 0 ↔ ∀ r, M.testBit r = true → r < c := by
  have hd : M / 2 ^ c ≤ M := Nat.div_le_self _ _
  rw [hp_shr (by omega) (by omega), ← nI_0, nI_eq (by omega) (by omega), Nat.div_eq_zero_iff_lt (Nat.two_pow_pos c)]
  constructor
  · intro h r hr
    rcases Nat.lt_or_ge r c with z | z
    · exact z
    · have e : (2 : Nat) ^ c ≤ 2 ^ r := Nat.pow_le_pow_right (by decide) z
      rw [Nat.testBit_lt_two_pow (Nat.lt_of_lt_of_le h e)] at hr
      cases hr
  · intro h
    apply Nat.lt_pow_two_of_testBit
    intro i hi
    apply hp_nb
    intro z
    have := h i z
    omega
theorem hp_isS {post : Int32 → Prop} {c M : Nat} (hc : c ≤ 8) (hM : M < 256) (k1 : hp_so c M → post 1) (k0 : ¬ hp_so c M → post 0) : wpY_isSorting post (nI c, V, T) (nI M) := by
  refine br_c (fun h1 => br_c (fun h2 => ?_) (fun h2 => ?_)) (fun h1 => ?_)
  · exact k1 ⟨(hp_soB hc hM).mp h2, (hp_soA hM).mp h1⟩
  · exact k0 (fun z => h2 ((hp_soB hc hM).mpr z.1))
  · exact k0 (fun z => h1 ((hp_soA hM).mpr z.2))
theorem hp_10 : ¬ (1 : Int32) = 0 := by decide
theorem hp_best_l {post : Int32 → Prop} {c b k : Nat} {f : Int32} (hc : c ≤ 8) (hT : hp_RT T) (hb : hp_so c b) (hk : hp_G T V c f 8 b = k)
    (hlo : ∀ M, hp_so c M → k ≤ hp_G T V c f 8 M) (K : post (nI k)) :
    ∀ d i n q, i + d = 256 → d < n → q ≤ 100000 → k ≤ q → (b < i → q ≤ k) → wY_best_5 post f (nI c) V T n (nI q) (nI i) := by
  intro d
  induction d with
  | zero =>
    intro i n q hi hn h1 h2 h3
    obtain ⟨n, rfl⟩ : ∃ q, n = q + 1 := ⟨n - 1, by omega⟩
    have e : i = 256 := by omega
    subst e
    have e2 : q = k := Nat.le_antisymm (h3 (hp_so_lt hc hb)) h2
    subst e2
    exact br_t (nI_le (a := 256) (b := 256) (by omega) (by omega)) K
  | succ d ih =>
    intro i n q hi hn h1 h2 h3
    obtain ⟨n, rfl⟩ : ∃ q, n = q + 1 := ⟨n - 1, by omega⟩
    have hi2 : i < 256 := by omega
    have hG := hp_G_le (V := V) (f := f) (M := i) hT hc (Nat.le_refl 8)
    refine br_f (nI_ge (b := 256) hi2 (by omega)) (hp_isS hc hi2 (fun so => ?_) (fun so => ?_))
    · refine br_f hp_10 (hp_costY hc hT hi2 (hp_smY rfl rfl (by omega) (by omega) (nm_r (nI_1 i) (ih (i + 1) n _ (by omega) (by omega) (by omega) ?_ (fun hbi => ?_)))))
      · have := hlo i so
        omega
      · by_cases e : b = i
        · subst e
          rw [hk]
          omega
        · have := h3 (by omega)
          omega
    · refine br_t rfl (nm_r (nI_1 i) (ih (i + 1) n q (by omega) (by omega) h1 h2 (fun hbi => h3 ?_)))
      by_cases e : b = i
      · rw [e] at hb
        exact absurd hb so
      · omega
theorem hp_bestY {post : Int32 → Prop} {c b k : Nat} {f : Int32} (hc : c ≤ 8) (hT : hp_RT T) (hb : hp_so c b) (hk : hp_G T V c f 8 b = k)
    (hlo : ∀ M, hp_so c M → k ≤ hp_G T V c f 8 M) (K : post (nI k)) : wpY_best post (nI c, V, T) f := by
  have hG := hp_G_le (V := V) (f := f) (M := b) hT hc (Nat.le_refl 8)
  exact Exists.intro 257 (hp_best_l hc hT hb hk hlo K 256 0 257 100000 rfl (by omega) (by omega) (by omega) (fun z => absurd z (Nat.not_lt_zero b)))
theorem hp_first_l {post : Int32 → Prop} {c b k : Nat} {f : Int32} (hc : c ≤ 8) (hT : hp_RT T) (hb : hp_so c b) (hk : hp_G T V c f 8 b = k)
    (hlo : ∀ M, hp_so c M → hp_G T V c f 8 M = k → b ≤ M) (K : post (nI b)) :
    ∀ d i n, i + d = b → d < n → wY_first_8 post f (nI k) (nI c) V T n (nI i) := by
  have hb2 := hp_so_lt hc hb
  intro d
  induction d with
  | zero =>
    intro i n hi hn
    obtain ⟨n, rfl⟩ : ∃ q, n = q + 1 := ⟨n - 1, by omega⟩
    have e : i = b := by omega
    subst e
    exact br_f (nI_ge (b := 256) hb2 (by omega)) (hp_isS hc hb2 (fun so => br_f hp_10 (hp_costY hc hT hb2 (br_t (by rw [hk]) K))) (fun so => absurd hb so))
  | succ d ih =>
    intro i n hi hn
    obtain ⟨n, rfl⟩ : ∃ q, n = q + 1 := ⟨n - 1, by omega⟩
    have hi2 : i < 256 := by omega
    have hG := hp_G_le (V := V) (f := f) (M := i) hT hc (Nat.le_refl 8)
    have hG2 := hp_G_le (V := V) (f := f) (M := b) hT hc (Nat.le_refl 8)
    have K2 := ih (i + 1) n (by omega) (by omega)
    refine br_f (nI_ge (b := 256) hi2 (by omega)) (hp_isS hc hi2 (fun so => br_f hp_10 (hp_costY hc hT hi2 (br_f (fun z => ?_) (nm_r (nI_1 i) K2)))) (fun so => br_t rfl (nm_r (nI_1 i) K2)))
    have e := (nI_eq (by omega) (by omega)).mp z
    have := hlo i so e
    omega
theorem hp_firstY {post : Int32 → Prop} {c b k : Nat} {f : Int32} (hc : c ≤ 8) (hT : hp_RT T) (hb : hp_so c b) (hk : hp_G T V c f 8 b = k)
    (hlo : ∀ M, hp_so c M → k ≤ hp_G T V c f 8 M) (hlo2 : ∀ M, hp_so c M → hp_G T V c f 8 M = k → b ≤ M) (K : post (nI b)) : wpY_first post (nI c, V, T) f :=
  hp_bestY hc hT hb hk hlo (Exists.intro (b + 1) (hp_first_l hc hT hb hk hlo2 K b 0 (b + 1) (Nat.zero_add b) (by omega)))
theorem hp_ties_l {post : Int32 → Prop} {c k : Nat} {L : List Nat} (hc : c ≤ 8) (hT : hp_RT T) (hk : k ≤ 1152) (hL : L.Nodup)
    (hm : ∀ M, M ∈ L ↔ (hp_so c M ∧ hp_G T V c 0 8 M = k)) (K : post (nI L.length)) :
    ∀ d i n (Q : List Nat), i + d = 256 → d < n → Q.Nodup → (∀ M, M ∈ Q ↔ (M < i ∧ hp_so c M ∧ hp_G T V c 0 8 M = k)) → wY_ties_10 post (nI k) (nI c) V T n (nI Q.length) (nI i) := by
  intro d
  induction d with
  | zero =>
    intro i n Q hi hn hN hQ
    obtain ⟨n, rfl⟩ : ∃ q, n = q + 1 := ⟨n - 1, by omega⟩
    have e : i = 256 := by omega
    subst e
    have p : L.Perm Q := by
      rw [List.perm_ext_iff_of_nodup hL hN]
      intro M
      rw [hm M, hQ M]
      exact ⟨fun z => ⟨hp_so_lt hc z.1, z⟩, fun z => z.2⟩
    rw [p.length_eq] at K
    exact br_t (nI_le (a := 256) (b := 256) (by omega) (by omega)) K
  | succ d ih =>
    intro i n Q hi hn hN hQ
    obtain ⟨n, rfl⟩ : ∃ q, n = q + 1 := ⟨n - 1, by omega⟩
    have hi2 : i < 256 := by omega
    have hG := hp_G_le (V := V) (f := 0) (M := i) hT hc (Nat.le_refl 8)
    have W : ¬ (hp_so c i ∧ hp_G T V c 0 8 i = k) → wY_ties_10 post (nI k) (nI c) V T n (nI Q.length) (nI (i + 1)) := by
      intro hno
      refine ih (i + 1) n Q (by omega) (by omega) hN (fun M => ?_)
      rw [hQ M]
      constructor
      · intro z
        exact ⟨by omega, z.2⟩
      · intro z
        refine ⟨?_, z.2⟩
        by_cases e : M = i
        · rw [e] at z
          exact absurd z.2 hno
        · omega
    refine br_f (nI_ge (b := 256) hi2 (by omega)) (hp_isS hc hi2 (fun so => br_f hp_10 (hp_costY hc hT hi2 ?_)) (fun so => br_t rfl (nm_r (nI_1 i) (W (fun z => so z.1)))))
    by_cases e : hp_G T V c 0 8 i = k
    · refine br_t (by rw [e]) (nm_r (nI_1 Q.length) (nm_r (nI_1 i) (ih (i + 1) n (i :: Q) (by omega) (by omega) ?_ (fun M => ?_))))
      · rw [List.nodup_cons]
        refine ⟨fun z => ?_, hN⟩
        have := ((hQ i).mp z).1
        omega
      · rw [List.mem_cons, hQ M]
        constructor
        · rintro (z | z)
          · rw [z]
            exact ⟨by omega, so, e⟩
          · exact ⟨by omega, z.2⟩
        · rintro ⟨z1, z2⟩
          by_cases e3 : M = i
          · exact Or.inl e3
          · exact Or.inr ⟨by omega, z2⟩
    · exact br_f (fun z => e ((nI_eq (by omega) (by omega)).mp z)) (nm_r (nI_1 i) (W (fun z => e z.2)))
/-! leastWith -/
def hp_df (a b M : Nat) : Int32 := if M.testBit a = M.testBit b then 0 else 1
theorem hp_lwY_l {post : Int32 → Prop} {c a b w k : Nat} {ap : Int32} (hc : c ≤ 8) (ha : a < 8) (hb : b < 8) (hT : hp_RT T) (hw : hp_so c w) (hw2 : hp_df a b w = ap) (hk : hp_G T V c 0 8 w = k)
    (hlo : ∀ M, hp_so c M → hp_df a b M = ap → k ≤ hp_G T V c 0 8 M) (K : post (nI k)) :
    ∀ d i n q, i + d = 256 → d < n → q ≤ 100000 → k ≤ q → (w < i → q ≤ k) → wY_leastWith_34 post (nI a) (nI b) ap (nI c) V T n (nI q) (nI i) := by
  intro d
  induction d with
  | zero =>
    intro i n q hi hn h1 h2 h3
    obtain ⟨n, rfl⟩ : ∃ q, n = q + 1 := ⟨n - 1, by omega⟩
    have e : i = 256 := by omega
    subst e
    have e2 : q = k := Nat.le_antisymm (h3 (hp_so_lt hc hw)) h2
    subst e2
    exact br_t (nI_le (a := 256) (b := 256) (by omega) (by omega)) K
  | succ d ih =>
    intro i n q hi hn h1 h2 h3
    obtain ⟨n, rfl⟩ : ∃ q, n = q + 1 := ⟨n - 1, by omega⟩
    have hi2 : i < 256 := by omega
    have hG := hp_G_le (V := V) (f := 0) (M := i) hT hc (Nat.le_refl 8)
    have S : ¬ (hp_so c i ∧ hp_df a b i = ap) → wY_leastWith_34 post (nI a) (nI b) ap (nI c) V T n (nI q) (nI (i + 1)) := by
      intro hno
      refine ih (i + 1) n q (by omega) (by omega) h1 h2 (fun hbi => h3 ?_)
      by_cases e : w = i
      · rw [e] at hw hw2
        exact absurd ⟨hw, hw2⟩ hno
      · omega
    have W : wY_leastWith_62 post (wY_leastWith_34 post (nI a) (nI b) ap (nI c) V T n) (nI a) (nI b) ap (nI q) (nI i) (hp_df a b i) (nI c) V T := by
      refine hp_isS hc hi2 (fun so => br_f hp_10 ?_) (fun so => br_t rfl (nm_r (nI_1 i) (S (fun z => so z.1))))
      refine br_c (fun hd => ?_) (fun hd => nm_r (nI_1 i) (S (fun z => hd z.2)))
      refine hp_costY hc hT hi2 (hp_smY rfl rfl (by omega) (by omega) (nm_r (nI_1 i) (ih (i + 1) n _ (by omega) (by omega) (by omega) ?_ (fun hbi => ?_))))
      · have := hlo i so hd
        omega
      · by_cases e : w = i
        · subst e
          rw [hk]
          omega
        · have := h3 (by omega)
          omega
    refine br_f (nI_ge (b := 256) hi2 (by omega)) ?_
    have i31 : i < 2 ^ 31 := by omega
    cases za : i.testBit a <;> cases zb : i.testBit b
    · rw [show hp_df a b i = 0 from if_pos (by rw [za, zb])] at W
      exact br_t (by rw [hp_b0 i31 (by omega) za, hp_b0 i31 (by omega) zb]) W
    · rw [show hp_df a b i = 1 from if_neg (by rw [za, zb]; decide)] at W
      exact br_f (by rw [hp_b0 i31 (by omega) za, hp_b1 i31 (by omega) zb]; decide) W
    · rw [show hp_df a b i = 1 from if_neg (by rw [za, zb]; decide)] at W
      exact br_f (by rw [hp_b1 i31 (by omega) za, hp_b0 i31 (by omega) zb]; decide) W
    · rw [show hp_df a b i = 0 from if_pos (by rw [za, zb])] at W
      exact br_t (by rw [hp_b1 i31 (by omega) za, hp_b1 i31 (by omega) zb]) W
end
end
section
/-! ===== X: the least of the table's entries that leastWith takes ===== -/
theorem hp_and2 {M a : Nat} (hM : M < 256) : (nI M &&& nI (2 ^ a)) = 0 ↔ M.testBit a = false := by
  have hb : M &&& 2 ^ a ≤ M := Nat.and_le_left
  rw [nx_and, ← nI_0, nI_eq (by omega) (by omega)]
  constructor
  · intro h
    have e : (M &&& 2 ^ a).testBit a = false := by rw [h]; exact Nat.zero_testBit a
    rw [Nat.testBit_and, Nat.testBit_two_pow_self, Bool.and_true] at e
    exact e
  · intro h
    apply Nat.eq_of_testBit_eq
    intro r
    rw [Nat.zero_testBit, Nat.testBit_and, Nat.testBit_two_pow]
    by_cases e : a = r
    · rw [← e, h]
      rfl
    · rw [decide_eq_false e, Bool.and_false]
section
variable {R aw a0 a1 b0 b1 : Int32} {T V xc xb xw : Nat → Int32}
theorem hp_lw75 {post : Int32 → SX → Prop} {J : Int32 → Int32 → Prop} {x3 x6 : Int32} {a b m : Nat} (hm : m < 256)
    (k : wX_leastWith_96 post J x3 (nI (2 ^ a)) (nI (2 ^ b)) x6 (nI m) (hp_df a b m) R aw a0 a1 b0 b1 T V xc xb xw) :
    ((nI m &&& nI (2 ^ a)) = 0 → wX_leastWith_75 post J x3 (nI (2 ^ a)) (nI (2 ^ b)) x6 (nI m) 1 R aw a0 a1 b0 b1 T V xc xb xw) ∧
    (¬ (nI m &&& nI (2 ^ a)) = 0 → wX_leastWith_75 post J x3 (nI (2 ^ a)) (nI (2 ^ b)) x6 (nI m) 0 R aw a0 a1 b0 b1 T V xc xb xw) := by
  have t1 : ∀ q, m.testBit q = true → ¬ (nI m &&& nI (2 ^ q)) = 0 := by
    intro q hq z
    rw [(hp_and2 hm).mp z] at hq
    cases hq
  cases za : m.testBit a <;> cases zb : m.testBit b
  · rw [show hp_df a b m = 0 from if_pos (by rw [za, zb])] at k
    refine br_t ((hp_and2 hm).mpr za) ?_
    unfold wX_leastWith_75
    refine br_t ((hp_and2 hm).mpr zb) ?_
    unfold wX_leastWith_88
    exact br_t rfl k
  · rw [show hp_df a b m = 1 from if_neg (by rw [za, zb]; decide)] at k
    refine br_t ((hp_and2 hm).mpr za) ?_
    unfold wX_leastWith_75
    refine br_f (t1 b zb) ?_
    unfold wX_leastWith_88
    exact br_f (by decide) k
  · rw [show hp_df a b m = 1 from if_neg (by rw [za, zb]; decide)] at k
    refine br_f (t1 a za) ?_
    unfold wX_leastWith_75
    refine br_t ((hp_and2 hm).mpr zb) ?_
    unfold wX_leastWith_88
    exact br_f (by decide) k
  · rw [show hp_df a b m = 0 from if_pos (by rw [za, zb])] at k
    refine br_f (t1 a za) ?_
    unfold wX_leastWith_75
    refine br_f (t1 b zb) ?_
    unfold wX_leastWith_88
    exact br_t rfl k
theorem hp_lwX_l {post : Int32 → SX → Prop} {g : Nat → Nat} {c a b K : Nat} {ap : Int32} (hc : c ≤ 8) (ha : a < c) (hb : b < c) (hg : ∀ M, g M < 10000) (hK : 2 ^ a ||| 2 ^ b = K)
    (hI : hp_I g (hp_AK K c) (hp_BC c) aw xc xb xw) (hex : ∃ M, hp_so c M ∧ hp_df a b M = ap)
    (k : ∀ q, (∃ M, hp_so c M ∧ hp_df a b M = ap ∧ g M = q) → (∀ M, hp_so c M → hp_df a b M = ap → q ≤ g M) → post (nI q) (R, aw, a0, a1, b0, b1, T, V, xc, xb, xw)) :
    ∀ d i n q, i + d = 256 → d < n → q ≤ 1000000 → (q = 1000000 ∨ ∃ M, hp_so c M ∧ hp_df a b M = ap ∧ g M = q) →
      (∀ M, hp_so c M → hp_df a b M = ap → (M &&& K) < i → q ≤ g M) → wX_leastWith_54 post ap (nI (2 ^ a)) (nI (2 ^ b)) R aw a0 a1 b0 b1 T V xc xb xw n (nI q) (nI i) := by
  obtain ⟨am, h1, h1b, h2, h3, h4, TB⟩ := hI
  have Ka : K.testBit a = true := by rw [← hK, Nat.testBit_or, Nat.testBit_two_pow_self, Bool.true_or]
  have Kb : K.testBit b = true := by rw [← hK, Nat.testBit_or, Nat.testBit_two_pow_self, Bool.or_true]
  have Kc : ∀ r, K.testBit r = true → r < c := by
    intro r hr
    rw [← hK, hp_set_tb, Nat.testBit_two_pow] at hr
    by_cases e1 : a = r
    · omega
    · by_cases e2 : b = r
      · omega
      · rw [decide_eq_false e1, decide_eq_false e2] at hr
        cases hr
  have dfK : ∀ M, hp_df a b (M &&& K) = hp_df a b M := by
    intro M
    unfold hp_df
    rw [Nat.testBit_and, Nat.testBit_and, Ka, Kb, Bool.and_true, Bool.and_true]
  intro d
  induction d with
  | zero =>
    intro i n q hi hn q1 q2 q3
    obtain ⟨n, rfl⟩ : ∃ q, n = q + 1 := ⟨n - 1, by omega⟩
    have e : i = 256 := by omega
    subst e
    have lo : ∀ M, hp_so c M → hp_df a b M = ap → q ≤ g M := fun M so dM =>
      q3 M so dM (Nat.lt_of_le_of_lt Nat.and_le_left (hp_so_lt hc so))
    obtain ⟨M0, so0, d0⟩ := hex
    have l0 := lo M0 so0 d0
    have g0 := hg M0
    refine br_t (nI_le (a := 256) (b := 256) (by omega) (by omega)) (k q (q2.resolve_left (by omega)) lo)
  | succ d ih =>
    intro i n q hi hn q1 q2 q3
    obtain ⟨n, rfl⟩ : ∃ q, n = q + 1 := ⟨n - 1, by omega⟩
    have hi2 : i < 256 := by omega
    have ii : vp_in (nI i) 256 := vp_in_nI hi2 (by omega)
    have ci : (nI i).toNatClampNeg = i := nI_clamp (by omega)
    have skip : (∀ M, hp_so c M → hp_df a b M = ap → (M &&& K) = i → q ≤ g M) → wX_leastWith_54 post ap (nI (2 ^ a)) (nI (2 ^ b)) R aw a0 a1 b0 b1 T V xc xb xw n (nI q) (nI (i + 1)) := by
      intro h
      refine ih (i + 1) n q (by omega) (by omega) q1 q2 (fun M so dM lt => ?_)
      by_cases e : (M &&& K) = i
      · exact h M so dM e
      · exact q3 M so dM (by omega)
    refine br_f (nI_ge (b := 256) hi2 (by omega)) (hp_lw75 hi2 ?_)
    by_cases hz : hp_sb i K
    · refine br_t (by rw [hp_or, hK]; exact (hp_sub hi2).mpr hz) ?_
      by_cases hd : hp_df a b i = ap
      · refine br_t hd (And.intro ii ?_)
        have inA : hp_in (hp_AK K c) i := fun r hr => ⟨Kc r (hz r hr), hp_kb1 (hz r hr)⟩
        obtain ⟨s1, s2⟩ := TB i hi2 inA
        have bitK : ∀ r, hp_AK K c r → K.testBit r = true := by
          intro r hr
          cases z : K.testBit r
          · have := hr.2
            rw [hp_kb0 z] at this
            cases this
          · rfl
        have PM : ∀ M, hp_so c M → (M &&& K) = i → hp_P (hp_AK K c) (hp_BC c) i M := by
          intro M so e
          refine ⟨fun r hr => ?_, fun r hr => so.1 r hr, so.2⟩
          rw [← e, Nat.testBit_and, bitK r hr, Bool.and_true]
        cases z0 : i.testBit 0
        · obtain ⟨k0, w, L, ⟨p1, p2, p3, p4, _⟩, ek, _⟩ := s2 z0
          have hw := hg w
          by_cases hq : q ≤ k0
          · exact br_t (by rw [ci, ek]; exact nI_le hq (by omega)) (nm_r (nI_1 i) (skip (fun M so dM e => Nat.le_trans hq (p3 M (PM M so e)))))
          · refine br_f (by rw [ci, ek, nI_leI (by omega) (by omega)]; exact hq) (And.intro ii (nm_r (e' := nI k0) (by rw [ci, ek]) (nm_r (nI_1 i) (ih (i + 1) n k0 (by omega) (by omega) (by omega) (Or.inr ⟨w, ⟨fun r hr => p1.2.1 r hr, p1.2.2⟩, ?_, p2⟩) (fun M so dM lt => ?_)))))
            · rw [← hd]
              unfold hp_df
              rw [p1.1 a ⟨ha, hp_kb1 Ka⟩, p1.1 b ⟨hb, hp_kb1 Kb⟩]
            · by_cases e : (M &&& K) = i
              · exact p3 M (PM M so e)
              · have := q3 M so dM (by omega)
                omega
        · have ex := s1 z0
          refine br_t (by rw [ci, ex]; exact nI_le (b := 1000000) q1 (by omega)) (nm_r (nI_1 i) (skip (fun M so dM e => ?_)))
          rw [← e, Nat.testBit_and, so.2] at z0
          cases z0
      · exact br_f hd (nm_r (nI_1 i) (skip (fun M so dM e => absurd (by rw [← e, dfK]; exact dM) hd)))
    · refine br_f (fun z => hz ?_) (nm_r (nI_1 i) (skip (fun M so dM e => absurd ?_ hz)))
      · rw [hp_or, hK] at z
        exact (hp_sub hi2).mp z
      · intro r hr
        rw [← e, Nat.testBit_and] at hr
        cases zr : K.testBit r
        · rw [zr, Bool.and_false] at hr
          cases hr
        · rfl
theorem hp_fin0 {g : Nat → Nat} {c : Nat} (hI : hp_I g (hp_AK 0 c) (hp_BC c) aw xc xb xw) : hp_E g (hp_so c) (xc 0) (xb 0) (xw 0) := by
  obtain ⟨am, h1, h1b, h2, h3, h4, TB⟩ := hI
  have no : ∀ r, ¬ hp_AK 0 c r := by
    intro r hr
    have := hr.2
    rw [hp_kb0 (Nat.zero_testBit r)] at this
    cases this
  have t := TB 0 (by omega) (fun r hr => by rw [Nat.zero_testBit] at hr; cases hr)
  refine hp_E_ext (t.2 (Nat.zero_testBit 0)) (fun M => ?_) (fun _ _ => rfl)
  exact ⟨fun z => ⟨fun r hr => absurd hr (no r), fun r hr => z.1 r hr, z.2⟩, fun z => ⟨fun r hr => z.2.1 r hr, z.2.2⟩⟩
end
end
section
/-! ===== the calls that store: read, say, stretch; cover and costOf ===== -/
theorem hp_RT_upd {T : Nat → Int32} {j q : Nat} (h : hp_RT T) (hq : q ≤ 9) : hp_RT (upd T j (nI q)) := by
  intro i
  by_cases e : i = j
  · subst e
    have e2 : hp_t (upd T i (nI q)) i = q := by
      unfold hp_t
      rw [pk_us]
      exact nI_clamp (by omega)
    rw [e2, pk_us]
    exact ⟨rfl, hq⟩
  · have e2 : hp_t (upd T j (nI q)) i = hp_t T i := by
      unfold hp_t
      rw [pk_un e]
    rw [e2, pk_un e]
    exact h i
theorem hp_RV_upd {V : Nat → Int32} {j : Nat} (h : hp_RV V) (x : Int32) : hp_RV (upd V j (x &&& 1)) := by
  intro i
  by_cases e : i = j
  · subst e
    rw [pk_us]
    have e2 : x &&& 1 = nI (x.toBitVec.toNat % 2) := pk_and x 1 (by decide)
    rw [e2]
    rcases Nat.mod_two_eq_zero_or_one x.toBitVec.toNat with z | z
    · rw [z]
      exact Or.inl rfl
    · rw [z]
      exact Or.inr rfl
  · rw [pk_un e]
    exact h i
/-- the trusts with the first i sites of read c blank -/
def hp_zr (T : Nat → Int32) (c : Nat) : Nat → Nat → Int32
  | 0 => T
  | i + 1 => upd (hp_zr T c i) (c * 8 + i) 0
theorem hp_zr_s (T : Nat → Int32) (c i : Nat) : hp_zr T c (i + 1) = upd (hp_zr T c i) (c * 8 + i) 0 := rfl
theorem hp_zr_RT {T : Nat → Int32} (h : hp_RT T) (c : Nat) : ∀ i, hp_RT (hp_zr T c i) := by
  intro i
  induction i with
  | zero => exact h
  | succ i ih => exact hp_RT_upd (q := 0) ih (by omega)
def hp_sT (T : Nat → Int32) (c fi : Nat) (t : Int32) : Nat → Nat → Int32
  | 0 => T
  | i + 1 => upd (hp_sT T c fi t i) (c * 8 + (fi + i)) t
def hp_sV (V : Nat → Int32) (c fi : Nat) (x : Int32) : Nat → Nat → Int32
  | 0 => V
  | i + 1 => upd (hp_sV V c fi x i) (c * 8 + (fi + i)) ((x >>> (nI i &&& 31)) &&& 1)
theorem hp_sT_RT {T : Nat → Int32} (h : hp_RT T) (c fi : Nat) {q : Nat} (hq : q ≤ 9) : ∀ i, hp_RT (hp_sT T c fi (nI q) i) := by
  intro i
  induction i with
  | zero => exact h
  | succ i ih => exact hp_RT_upd ih hq
theorem hp_sV_RV {V : Nat → Int32} (h : hp_RV V) (c fi : Nat) (x : Int32) : ∀ i, hp_RV (hp_sV V c fi x i) := by
  intro i
  induction i with
  | zero => exact h
  | succ i ih => exact hp_RV_upd ih _
theorem hp_11 (x : Int32) : (x &&& 1) &&& 1 = x &&& 1 := by
  rw [Int32.and_assoc]
  rfl
section
variable {R aw a0 a1 b0 b1 : Int32} {T V xc xb xw : Nat → Int32}
theorem hp_readX {post : Int32 → SX → Prop} {c : Nat} (hc : c < 8) (k : post (nI c) (nI (c + 1), aw, a0, a1, b0, b1, hp_zr T c 8, V, xc, xb, xw)) :
    wpX_read post (nI c, aw, a0, a1, b0, b1, T, V, xc, xb, xw) := by
  have L : ∀ d i n, i + d = 8 → d < n → wX_read_14 post (nI c) aw a0 a1 b0 b1 n (nI i) (hp_zr T c i) V xc xb xw := by
    intro d
    induction d with
    | zero =>
      intro i n hi hn
      obtain ⟨n, rfl⟩ : ∃ q, n = q + 1 := ⟨n - 1, by omega⟩
      have e : i = 8 := by omega
      subst e
      refine br_t (nI_le (a := 8) (b := 8) (by omega) (by omega)) (nm_r (nI_1 c) ?_)
      rw [nI_pred]
      exact k
    | succ d ih =>
      intro i n hi hn
      obtain ⟨n, rfl⟩ : ∃ q, n = q + 1 := ⟨n - 1, by omega⟩
      have ei := hp_ix8 c i
      have ii : vp_in (nI c * 8 + nI i) 64 := by rw [ei]; exact vp_in_nI (by omega) (by omega)
      have ci : (nI c * 8 + nI i).toNatClampNeg = c * 8 + i := by rw [ei]; exact nI_clamp (by omega)
      exact br_f (nI_ge (b := 8) (by omega) (by omega)) (And.intro ii (nm_r (e' := hp_zr T c (i + 1)) (by rw [ci, hp_zr_s]) (nm_r (nI_1 i) (ih (i + 1) n (by omega) (by omega)))))
  exact br_t (nI_lt (b := 8) hc (by omega)) (Exists.intro 9 (L 8 0 9 rfl (by omega)))
theorem hp_readY {post : Int32 → SY → Prop} {c : Nat} (hc : c < 8) (k : post (nI c) (nI (c + 1), V, hp_zr T c 8)) :
    wpY_read post (nI c, V, T) := by
  have L : ∀ d i n, i + d = 8 → d < n → wY_read_14 post (nI c) n (nI i) V (hp_zr T c i) := by
    intro d
    induction d with
    | zero =>
      intro i n hi hn
      obtain ⟨n, rfl⟩ : ∃ q, n = q + 1 := ⟨n - 1, by omega⟩
      have e : i = 8 := by omega
      subst e
      refine br_t (nI_le (a := 8) (b := 8) (by omega) (by omega)) (nm_r (nI_1 c) ?_)
      rw [nI_pred]
      exact k
    | succ d ih =>
      intro i n hi hn
      obtain ⟨n, rfl⟩ : ∃ q, n = q + 1 := ⟨n - 1, by omega⟩
      have ei := hp_ix8 c i
      have ii : vp_in (nI c * 8 + nI i) 64 := by rw [ei]; exact vp_in_nI (by omega) (by omega)
      have ci : (nI c * 8 + nI i).toNatClampNeg = c * 8 + i := by rw [ei]; exact nI_clamp (by omega)
      exact br_f (nI_ge (b := 8) (by omega) (by omega)) (And.intro ii (nm_r (e' := hp_zr T c (i + 1)) (by rw [ci, hp_zr_s]) (nm_r (nI_1 i) (ih (i + 1) n (by omega) (by omega)))))
  have h8 : ¬ nI c = 8 := by
    rw [show (8 : Int32) = nI 8 from rfl, nI_eq (by omega) (by omega)]
    omega
  exact br_f h8 (Exists.intro 9 (L 8 0 9 rfl (by omega)))
theorem hp_sayX {post : Int32 → SX → Prop} {c r s q : Nat} {p1 p2 v : Int32} (hc : c ≤ 8) (hr : r < c) (hs : s < 8) (hq : q ≤ 9) (e1 : p1 = nI s) (ev : p2 &&& 1 = v)
    (k : post (T (r * 8 + s)) (nI c, aw, a0, a1, b0, b1, upd T (r * 8 + s) (nI q), upd V (r * 8 + s) v, xc, xb, xw)) :
    wpX_say post (nI c, aw, a0, a1, b0, b1, T, V, xc, xb, xw) (nI r) p1 p2 (nI q) := by
  subst e1 ev
  have ii : vp_in (nI (r * 8 + s)) 64 := vp_in_nI (by omega) (by omega)
  have ci : (nI (r * 8 + s)).toNatClampNeg = r * 8 + s := nI_clamp (by omega)
  refine br_f (nI_pos (by omega)) (br_t (nI_lt hr (by omega)) ?_)
  refine br_t rfl (br_f (nI_pos (by omega)) (br_t (nI_lt (b := 8) hs (by omega)) (br_f (nI_pos (by omega)) (br_t (nI_le (b := 9) hq (by omega)) ?_))))
  exact nm_r (hp_ix8 r s) (And.intro ii (nm_r (e' := T (r * 8 + s)) (by rw [ci]) (And.intro ii (nm_r (e' := upd T (r * 8 + s) (nI q)) (by rw [ci]) (And.intro ii (nm_r (e' := upd V (r * 8 + s) (p2 &&& 1)) (by rw [ci]) k))))))
theorem hp_sayY {post : Int32 → SY → Prop} {c r s q : Nat} {p2 : Int32} (hc : c ≤ 8) (hr : r < c) (hs : s < 8) (hq : q ≤ 9)
    (k : post (T (r * 8 + s)) (nI c, upd V (r * 8 + s) (p2 &&& 1), upd T (r * 8 + s) (nI q))) :
    wpY_say post (nI c, V, T) (nI r) (nI s) p2 (nI q) := by
  have ei := hp_ix8 r s
  have ii : vp_in (nI r * 8 + nI s) 64 := by rw [ei]; exact vp_in_nI (by omega) (by omega)
  have ci : (nI r * 8 + nI s).toNatClampNeg = r * 8 + s := by rw [ei]; exact nI_clamp (by omega)
  refine br_f (nI_pos (by omega)) (br_t (nI_lt hr (by omega)) ?_)
  refine br_t rfl (br_f (nI_pos (by omega)) (br_t (nI_le (b := 7) (by omega) (by omega)) (br_f (nI_pos (by omega)) (br_t (nI_le (b := 9) hq (by omega)) ?_))))
  exact And.intro ii (nm_r (e' := T (r * 8 + s)) (by rw [ci]) (And.intro ii (nm_r (e' := upd V (r * 8 + s) (p2 &&& 1)) (by rw [ci]) (And.intro ii (nm_r (e' := upd T (r * 8 + s) (nI q)) (by rw [ci]) k)))))
theorem hp_stX {post : Int32 → SX → Prop} {c fi nn q : Nat} {x : Int32} (hc : c < 8) (hn : fi + nn ≤ 8) (hq : q ≤ 9)
    (k : post (nI c) (nI (c + 1), aw, a0, a1, b0, b1, hp_sT T c fi (nI q) nn, hp_sV V c fi x nn, xc, xb, xw)) :
    ∀ d i n, i + d = nn → d < n → wX_stretch_71 post x (nI q) (nI fi) (nI nn) (nI c) n (nI i) (nI (c + 1)) aw a0 a1 b0 b1 (hp_sT T c fi (nI q) i) (hp_sV V c fi x i) xc xb xw := by
  intro d
  induction d with
  | zero =>
    intro i n hi hn
    obtain ⟨n, rfl⟩ : ∃ q, n = q + 1 := ⟨n - 1, by omega⟩
    have e : i = nn := by omega
    subst e
    exact br_t (nI_le (Nat.le_refl i) (by omega)) k
  | succ d ih =>
    intro i n hi hn
    obtain ⟨n, rfl⟩ : ∃ q, n = q + 1 := ⟨n - 1, by omega⟩
    exact br_f (nI_ge (by omega) (by omega)) (hp_sayX (by omega) (Nat.lt_succ_self c) (s := fi + i) (by omega) hq (nI_add fi i) (hp_11 _) (nm_r (nI_1 i) (ih (i + 1) n (by omega) (by omega))))
theorem hp_stY {post : Int32 → SY → Prop} {c fi nn q : Nat} {x : Int32} (hc : c < 8) (hn : fi + nn ≤ 8)
    (k : post (nI c) (nI (c + 1), hp_sV V c fi x nn, hp_sT T c fi (nI q) nn)) :
    ∀ d i n, i + d = nn → d < n → wY_stretch_63 post x (nI q) (nI fi) (nI nn) (nI c) (nI (c + 1)) n (nI i) (hp_sV V c fi x i) (hp_sT T c fi (nI q) i) := by
  intro d
  induction d with
  | zero =>
    intro i n hi hn
    obtain ⟨n, rfl⟩ : ∃ q, n = q + 1 := ⟨n - 1, by omega⟩
    have e : i = nn := by omega
    subst e
    exact br_t (nI_le (Nat.le_refl i) (by omega)) k
  | succ d ih =>
    intro i n hi hn
    obtain ⟨n, rfl⟩ : ∃ q, n = q + 1 := ⟨n - 1, by omega⟩
    have ei : nI c * 8 + nI fi + nI i = nI (c * 8 + (fi + i)) := by
      rw [hp_ix8, nI_add, Nat.add_assoc]
    have ii : vp_in (nI c * 8 + nI fi + nI i) 64 := by rw [ei]; exact vp_in_nI (by omega) (by omega)
    have ci : (nI c * 8 + nI fi + nI i).toNatClampNeg = c * 8 + (fi + i) := by rw [ei]; exact nI_clamp (by omega)
    exact br_f (nI_ge (by omega) (by omega)) (br_f (nI_pos (by omega)) (And.intro ii (nm_r (e' := hp_sV V c fi x (i + 1)) (by rw [ci]; rfl) (And.intro ii (nm_r (e' := hp_sT T c fi (nI q) (i + 1)) (by rw [ci]; rfl) (nm_r (nI_1 i) (ih (i + 1) n (by omega) (by omega))))))))
/-- no room: Y walks on and stores nothing -/
theorem hp_stN {post : Int32 → SY → Prop} {nn : Nat} {x t fi y : Int32} (hn : nn ≤ 8) (k : post (-4) (y, V, T)) :
    ∀ d i n, i + d = nn → d < n → wY_stretch_63 post x t fi (nI nn) (-4) y n (nI i) V T := by
  intro d
  induction d with
  | zero =>
    intro i n hi hn
    obtain ⟨n, rfl⟩ : ∃ q, n = q + 1 := ⟨n - 1, by omega⟩
    have e : i = nn := by omega
    subst e
    exact br_t (nI_le (Nat.le_refl i) (by omega)) k
  | succ d ih =>
    intro i n hi hn
    obtain ⟨n, rfl⟩ : ∃ q, n = q + 1 := ⟨n - 1, by omega⟩
    exact br_f (nI_ge (by omega) (by omega)) (br_t (by decide) (nm_r (nI_1 i) (ih (i + 1) n (by omega) (by omega))))
theorem hp_cov {c s : Nat} (hc : c ≤ 8) (hs : s < 8) : ∀ d i (q : Int32), i + d = c → ∃ r : Int32,
    (∀ post : Int32 → Prop, post r → wX_cover_17 post (nI s) (nI c) aw a0 a1 b0 b1 T V xc xb xw (d + 1) q (nI i)) ∧
    (∀ post : Int32 → Prop, post r → wY_cover_17 post (nI s) (nI c) V T (d + 1) q (nI i)) := by
  intro d
  induction d with
  | zero =>
    intro i q hi
    have e : i = c := by omega
    subst e
    have h : nI i ≤ nI i := nI_le (Nat.le_refl i) (by omega)
    exact ⟨q, fun _ hp => br_t h hp, fun _ hp => br_t h hp⟩
  | succ d ih =>
    intro i q hi
    have h : ¬ nI c ≤ nI i := nI_ge (by omega) (by omega)
    have ei := hp_ix8 i s
    have ii : vp_in (nI i * 8 + nI s) 64 := by rw [ei]; exact vp_in_nI (by omega) (by omega)
    by_cases z : T (nI i * 8 + nI s).toNatClampNeg ≤ 0
    · obtain ⟨r, hX, hY⟩ := ih (i + 1) q (by omega)
      exact ⟨r, fun post hp => br_f h (And.intro ii (br_t z (nm_r (nI_1 i) (hX post hp)))), fun post hp => br_f h (And.intro ii (br_t z (nm_r (nI_1 i) (hY post hp))))⟩
    · obtain ⟨r, hX, hY⟩ := ih (i + 1) (q + 1) (by omega)
      exact ⟨r, fun post hp => br_f h (And.intro ii (br_f z (nm_e (nm_r (nI_1 i) (hX post hp))))), fun post hp => br_f h (And.intro ii (br_f z (nm_e (nm_r (nI_1 i) (hY post hp)))))⟩
theorem hp_ev : ∀ c, c < 9 → ((1 : Int32) <<< (nI c &&& 31)) - 1 = nI (2 ^ c - 1) := by decide +kernel
theorem hp_254 : ∀ c, c < 9 → nI (2 ^ c - 1) &&& (-2) = 254 &&& nI (2 ^ c - 1) := by decide +kernel
theorem hp_evn : ∀ c, c < 9 → (nI (2 ^ c - 1)).toBitVec.toNat = 2 ^ c - 1 := by decide +kernel
theorem hp_evl : ∀ c, c < 9 → 2 ^ c ≤ 256 := by decide +kernel
theorem hp_cost2 {post : Int32 → SX → Prop} {c m : Nat} (hc : c ≤ 8) (hm : m < 256) (hT : hp_RT T) (hV : hp_RV V)
    (k : ∀ a0 a1 b0 b1, post (nI (hp_G T V c 0 8 m)) (nI c, aw, a0, a1, b0, b1, T, V, xc, xb, xw)) :
    ∀ d s n a0 a1 b0 b1, s + d = 8 → d < n → wX_costOf_22 post (nI (2 ^ c - 1)) (nI m) n (nI (hp_G T V c 0 s m)) (nI s) (nI c) aw a0 a1 b0 b1 T V xc xb xw := by
  intro d
  induction d with
  | zero =>
    intro s n a0 a1 b0 b1 hi hn
    obtain ⟨n, rfl⟩ : ∃ q, n = q + 1 := ⟨n - 1, by omega⟩
    have e : s = 8 := by omega
    subst e
    exact br_t (nI_le (a := 8) (b := 8) (by omega) (by omega)) (k a0 a1 b0 b1)
  | succ d ih =>
    intro s n a0 a1 b0 b1 hi hn
    obtain ⟨n, rfl⟩ : ∃ q, n = q + 1 := ⟨n - 1, by omega⟩
    have hs : s < 8 := by omega
    have hl := hp_evl c (by omega)
    have ham : 2 ^ c - 1 < 256 := by omega
    refine br_f (nI_ge (b := 8) hs (by omega)) (hp_siteCost hc hs hm ham hT hV (pa := fun r => (2 ^ c - 1).testBit r && !m.testBit r) (pb := fun r => (2 ^ c - 1).testBit r && m.testBit r) (fun _ => rfl) (fun _ => rfl)
      (fun a0 a1 b0 b1 => nm_r (e' := nI (hp_G T V c 0 (s + 1) m)) ?_ (nm_r (nI_1 s) (ih (s + 1) n a0 a1 b0 b1 (by omega) (by omega)))))
    rw [nI_add, hp_G_s]
    have e : hp_C T V c 0 s m = hp_sc T V c 0 s (fun r => (2 ^ c - 1).testBit r && !m.testBit r) (fun r => (2 ^ c - 1).testBit r && m.testBit r) := by
      apply hp_sc_eq
      intro r hr
      refine Or.inl ?_
      rw [Nat.testBit_two_pow_sub_one, decide_eq_true hr, Bool.true_and, Bool.true_and]
      exact ⟨rfl, rfl⟩
    rw [e]
end
end
section
/-- the two objects hold the same reads: a count up to 8, trusts 0 to 9, values 0 or 1; the table and the sums of X are free -/
def i_Rel (_ : Nat) (u : SX) (v : SY) : Prop :=
  ∃ c : Nat, c ≤ 8 ∧ u.1 = nI c ∧ v = (nI c, u.2.2.2.2.2.2.2.1, u.2.2.2.2.2.2.1) ∧ hp_RT u.2.2.2.2.2.2.1 ∧ hp_RV u.2.2.2.2.2.2.2.1
theorem i_up {k : Nat} {u : SX} {v : SY} (h : i_Rel k u v) : i_Rel (k + 5) u v := h
theorem hp_mk {k c : Nat} {aw a0 a1 b0 b1 : Int32} {T V xc xb xw : Nat → Int32} (hc : c ≤ 8) (hT : hp_RT T) (hV : hp_RV V) : i_Rel k (nI c, aw, a0, a1, b0, b1, T, V, xc, xb, xw) (nI c, V, T) :=
  ⟨c, hc, rfl, rfl, hT, hV⟩
theorem hp_el {k : Nat} {u : SX} {v : SY} {P : SX → SY → Prop}
    (h : ∀ (c : Nat) (aw a0 a1 b0 b1 : Int32) (T V xc xb xw : Nat → Int32), c ≤ 8 → hp_RT T → hp_RV V → P (nI c, aw, a0, a1, b0, b1, T, V, xc, xb, xw) (nI c, V, T))
    (I : i_Rel k u v) : P u v := by
  obtain ⟨R, aw, a0, a1, b0, b1, T, V, xc, xb, xw⟩ := u
  obtain ⟨c, hc, e, rfl, hT, hV⟩ := I
  have e2 : R = nI c := e
  subst e2
  exact h c aw a0 a1 b0 b1 T V xc xb xw hc hT hV
theorem i_vc0 : wpX_init (fun u => wpY_init (fun v => i_Rel 0 u v)) := by
  have hT : hp_RT (fun _ => 0) := by
    intro j
    show (0 : Int32) = nI ((0 : Int32).toNatClampNeg) ∧ (0 : Int32).toNatClampNeg ≤ 9
    decide
  exact hp_mk (k := 0) (c := 0) (by omega) hT (fun _ => Or.inl rfl)
theorem i_vc_read {k : Nat} {u : SX} {v : SY} (I : i_Rel k u v) (hk : k + 5 ≤ 2560) : wpX_read (fun r u' => wpY_read (fun r' v' => r' = r ∧ i_Rel (k + 5) u' v') v) u := by
  refine hp_el (P := fun u v => wpX_read (fun r u' => wpY_read (fun r' v' => r' = r ∧ i_Rel (k + 5) u' v') v) u) ?_ I
  intro c aw a0 a1 b0 b1 T V xc xb xw hc hT hV
  by_cases h : c < 8
  · exact hp_readX h (hp_readY h (And.intro rfl (hp_mk (by omega) (hp_zr_RT hT c 8) hV)))
  · have e : c = 8 := by omega
    subst e
    exact br_f (nI_nlt (b := 8) (by omega) (by omega)) (br_t rfl (And.intro rfl (hp_mk hc hT hV)))
theorem i_vc_say {k : Nat} {u : SX} {v : SY} (I : i_Rel k u v) (hk : k + 5 ≤ 2560) (v1 : Int32) (v2 : Int32) (v3 : Int32) (v4 : Int32) : wpX_say (fun r u' => wpY_say (fun r' v' => r' = r ∧ i_Rel (k + 5) u' v') v v1 v2 v3 v4) u v1 v2 v3 v4 := by
  refine hp_el (P := fun u v => wpX_say (fun r u' => wpY_say (fun r' v' => r' = r ∧ i_Rel (k + 5) u' v') v v1 v2 v3 v4) u v1 v2 v3 v4) ?_ I
  intro c aw a0 a1 b0 b1 T V xc xb xw hc hT hV
  by_cases n0 : v1 < 0
  · exact br_t n0 (br_f hp_10 (br_t n0 (br_f hp_10 (And.intro rfl (hp_mk hc hT hV)))))
  · obtain ⟨r, hr, rfl⟩ := nI_of n0
    by_cases hrc : r < c
    · have lc : nI r < nI c := nI_lt hrc (by omega)
      by_cases s0 : v2 < 0
      · exact br_f n0 (br_t lc (br_t rfl (br_t s0 (br_f n0 (br_t lc (br_t rfl (br_t s0 (And.intro rfl (hp_mk hc hT hV)))))))))
      · obtain ⟨s, hs, rfl⟩ := nI_of s0
        by_cases s8 : s < 8
        · have l8 : nI s < 8 := nI_lt (b := 8) s8 (by omega)
          have l7 : nI s ≤ 7 := nI_le (b := 7) (by omega) (by omega)
          by_cases t0 : v4 < 0
          · exact br_f n0 (br_t lc (br_t rfl (br_f s0 (br_t l8 (br_t t0 (br_f n0 (br_t lc (br_t rfl (br_f s0 (br_t l7 (br_t t0 (And.intro rfl (hp_mk hc hT hV)))))))))))))
          · obtain ⟨q, hq, rfl⟩ := nI_of t0
            by_cases q9 : q ≤ 9
            · exact hp_sayX hc hrc s8 q9 rfl rfl (hp_sayY hc hrc s8 q9 (And.intro rfl (hp_mk hc (hp_RT_upd hT q9) (hp_RV_upd hV v3))))
            · have g9 : ¬ nI q ≤ 9 := nI_ge (a := 9) (b := q) (by omega) hq
              exact br_f n0 (br_t lc (br_t rfl (br_f s0 (br_t l8 (br_f t0 (br_f g9 (br_f n0 (br_t lc (br_t rfl (br_f s0 (br_t l7 (br_f t0 (br_f g9 (And.intro rfl (hp_mk hc hT hV)))))))))))))))
        · have l8 : ¬ nI s < 8 := nI_nlt (b := 8) (by omega) hs
          have l7 : ¬ nI s ≤ 7 := nI_ge (a := 7) (b := s) (by omega) hs
          exact br_f n0 (br_t lc (br_t rfl (br_f s0 (br_f l8 (br_f n0 (br_t lc (br_t rfl (br_f s0 (br_f l7 (And.intro rfl (hp_mk hc hT hV)))))))))))
    · have lc : ¬ nI r < nI c := nI_nlt (by omega) hr
      exact br_f n0 (br_f lc (br_f hp_10 (br_f n0 (br_f lc (br_f hp_10 (And.intro rfl (hp_mk hc hT hV)))))))
theorem i_vc_stretch {k : Nat} {u : SX} {v : SY} (I : i_Rel k u v) (hk : k + 5 ≤ 2560) (v1 : Int32) (v2 : Int32) (v3 : Int32) : wpX_stretch (fun r u' => wpY_stretch (fun r' v' => r' = r ∧ i_Rel (k + 5) u' v') v v1 v2 v3) u v1 v2 v3 := by
  refine hp_el (P := fun u v => wpX_stretch (fun r u' => wpY_stretch (fun r' v' => r' = r ∧ i_Rel (k + 5) u' v') v v1 v2 v3) u v1 v2 v3) ?_ I
  intro c aw a0 a1 b0 b1 T V xc xb xw hc hT hV
  obtain ⟨fi, hfi, eA⟩ : ∃ fi, fi < 8 ∧ v1 &&& 7 = nI fi := ⟨_, Nat.mod_lt _ (by decide), pk_and v1 3 (by decide)⟩
  obtain ⟨nn, hnn, eB⟩ : ∃ nn, nn < 16 ∧ (v1 >>> ((3 : Int32) &&& 31)) &&& 15 = nI nn := ⟨_, Nat.mod_lt _ (by decide), pk_and _ 4 (by decide)⟩
  by_cases n1 : nn < 1
  · have l : nI nn < 1 := nI_lt (b := 1) n1 (by omega)
    exact nm_r eA (nm_r eB (br_t l (nm_r eA (nm_r eB (br_t l (And.intro rfl (hp_mk hc hT hV)))))))
  · have l1 : ¬ nI nn < 1 := nI_nlt (b := 1) (by omega) (by omega)
    by_cases n8 : 8 < nn
    · have l : (8 : Int32) < nI nn := nI_lt (a := 8) n8 (by omega)
      exact nm_r eA (nm_r eB (br_f l1 (br_t l (nm_r eA (nm_r eB (br_f l1 (br_t l (And.intro rfl (hp_mk hc hT hV)))))))))
    · have l8 : ¬ (8 : Int32) < nI nn := nI_nlt (a := 8) (b := nn) (by omega) (by omega)
      by_cases ns : fi + nn ≤ 8
      · have ls : nI fi + nI nn ≤ 8 := by rw [nI_add]; exact nI_le (b := 8) ns (by omega)
        by_cases t1 : v3 < 1
        · exact nm_r eA (nm_r eB (br_f l1 (br_f l8 (br_t ls (br_t t1 (nm_r eA (nm_r eB (br_f l1 (br_f l8 (br_t ls (br_t t1 (And.intro rfl (hp_mk hc hT hV)))))))))))))
        · have t0 : ¬ v3 < 0 := fun z => t1 (Int32.lt_trans z (by decide))
          obtain ⟨q, hq, rfl⟩ := nI_of t0
          by_cases q9 : q ≤ 9
          · have l9 : nI q ≤ 9 := nI_le (b := 9) q9 (by omega)
            by_cases h : c < 8
            · refine nm_r eA (nm_r eB (br_f l1 (br_f l8 (br_t ls (br_f t1 (br_t l9 (hp_readX h (br_t (nI_pos' (by omega)) (Exists.intro (nn + 1) (hp_stX h ns q9 ?_ nn 0 (nn + 1) (Nat.zero_add nn) (by omega)))))))))))
              exact nm_r eA (nm_r eB (br_f l1 (br_f l8 (br_t ls (br_f t1 (br_t l9 (hp_readY h (Exists.intro (nn + 1) (hp_stY h ns (And.intro rfl (hp_mk (by omega) (hp_sT_RT (hp_zr_RT hT c 8) c fi q9 nn) (hp_sV_RV hV c fi v2 nn))) nn 0 (nn + 1) (Nat.zero_add nn) (by omega))))))))))
            · have e : c = 8 := by omega
              subst e
              refine nm_r eA (nm_r eB (br_f l1 (br_f l8 (br_t ls (br_f t1 (br_t l9 (br_f (nI_nlt (b := 8) (by omega) (by omega)) (br_f (by decide) ?_))))))))
              exact nm_r eA (nm_r eB (br_f l1 (br_f l8 (br_t ls (br_f t1 (br_t l9 (br_t rfl (Exists.intro (nn + 1) (hp_stN (by omega) (And.intro rfl (hp_mk hc hT hV)) nn 0 (nn + 1) (Nat.zero_add nn) (by omega))))))))))
          · have g9 : ¬ nI q ≤ 9 := nI_ge (a := 9) (b := q) (by omega) hq
            exact nm_r eA (nm_r eB (br_f l1 (br_f l8 (br_t ls (br_f t1 (br_f g9 (nm_r eA (nm_r eB (br_f l1 (br_f l8 (br_t ls (br_f t1 (br_f g9 (And.intro rfl (hp_mk hc hT hV)))))))))))))))
      · have ls : ¬ nI fi + nI nn ≤ 8 := by rw [nI_add]; exact nI_ge (a := 8) (b := fi + nn) (by omega) (by omega)
        exact nm_r eA (nm_r eB (br_f l1 (br_f l8 (br_f ls (nm_r eA (nm_r eB (br_f l1 (br_f l8 (br_f ls (And.intro rfl (hp_mk hc hT hV)))))))))))
theorem i_vc_drop {k : Nat} {u : SX} {v : SY} (I : i_Rel k u v) (hk : k + 5 ≤ 2560) : wpX_drop (fun r u' => wpY_drop (fun r' v' => r' = r ∧ i_Rel (k + 5) u' v') v) u := by
  refine hp_el (P := fun u v => wpX_drop (fun r u' => wpY_drop (fun r' v' => r' = r ∧ i_Rel (k + 5) u' v') v) u) ?_ I
  intro c aw a0 a1 b0 b1 T V xc xb xw hc hT hV
  cases c with
  | zero => exact br_t rfl (br_t rfl (And.intro rfl (hp_mk hc hT hV)))
  | succ c =>
    have h0 : ¬ nI (c + 1) = 0 := nI_ne0 (by omega) (by omega)
    exact br_f h0 (nm_r (nI_pred c) (br_f h0 (nm_r (nI_pred c) (And.intro rfl (hp_mk (by omega) hT hV)))))
theorem i_vc_least {k : Nat} {u : SX} {v : SY} (I : i_Rel k u v) (hk : k + 5 ≤ 2560) : wpX_least (fun r u' => wpY_least (fun r' => r' = r ∧ i_Rel (k + 5) u' v) v) u := by
  refine hp_el (P := fun u v => wpX_least (fun r u' => wpY_least (fun r' => r' = r ∧ i_Rel (k + 5) u' v) v) u) ?_ I
  intro c aw a0 a1 b0 b1 T V xc xb xw hc hT hV
  refine hp_solve (aw := aw) (K := 0) hc (by omega) hT hV (fun aw a0 a1 b0 b1 xc xb xw hI => ?_)
  obtain ⟨k0, b, L, ⟨p1, p2, p3, p4, p5, p6⟩, e1, e2, e3⟩ := hp_fin0 hI
  exact hp_bestY hc hT p1 p2 p3 (And.intro e1.symm (hp_mk hc hT hV))
theorem i_vc_sorting {k : Nat} {u : SX} {v : SY} (I : i_Rel k u v) (hk : k + 5 ≤ 2560) : wpX_sorting (fun r u' => wpY_sorting (fun r' => r' = r ∧ i_Rel (k + 5) u' v) v) u := by
  refine hp_el (P := fun u v => wpX_sorting (fun r u' => wpY_sorting (fun r' => r' = r ∧ i_Rel (k + 5) u' v) v) u) ?_ I
  intro c aw a0 a1 b0 b1 T V xc xb xw hc hT hV
  refine hp_solve (aw := aw) (K := 0) hc (by omega) hT hV (fun aw a0 a1 b0 b1 xc xb xw hI => ?_)
  obtain ⟨k0, b, L, ⟨p1, p2, p3, p4, p5, p6⟩, e1, e2, e3⟩ := hp_fin0 hI
  exact hp_firstY hc hT p1 p2 p3 p4 (And.intro e2.symm (hp_mk hc hT hV))
theorem i_vc_ties {k : Nat} {u : SX} {v : SY} (I : i_Rel k u v) (hk : k + 5 ≤ 2560) : wpX_ties (fun r u' => wpY_ties (fun r' => r' = r ∧ i_Rel (k + 5) u' v) v) u := by
  refine hp_el (P := fun u v => wpX_ties (fun r u' => wpY_ties (fun r' => r' = r ∧ i_Rel (k + 5) u' v) v) u) ?_ I
  intro c aw a0 a1 b0 b1 T V xc xb xw hc hT hV
  refine hp_solve (aw := aw) (K := 0) hc (by omega) hT hV (fun aw a0 a1 b0 b1 xc xb xw hI => ?_)
  obtain ⟨k0, b, L, ⟨p1, p2, p3, p4, p5, p6⟩, e1, e2, e3⟩ := hp_fin0 hI
  have hG := hp_G_le (V := V) (f := 0) (M := b) hT hc (Nat.le_refl 8)
  refine hp_bestY hc hT p1 p2 p3 (Exists.intro 257 (hp_ties_l hc hT (by omega) p5 p6 (And.intro e3.symm (hp_mk hc hT hV)) 256 0 257 [] rfl (by omega) List.nodup_nil (fun M => ?_)))
  exact ⟨fun z => absurd z List.not_mem_nil, fun z => absurd z.1 (Nat.not_lt_zero M)⟩
theorem i_vc_costOf {k : Nat} {u : SX} {v : SY} (I : i_Rel k u v) (hk : k + 5 ≤ 2560) (v1 : Int32) : wpX_costOf (fun r u' => wpY_costOf (fun r' => r' = r ∧ i_Rel (k + 5) u' v) v v1) u v1 := by
  refine hp_el (P := fun u v => wpX_costOf (fun r u' => wpY_costOf (fun r' => r' = r ∧ i_Rel (k + 5) u' v) v v1) u v1) ?_ I
  intro c aw a0 a1 b0 b1 T V xc xb xw hc hT hV
  have c9 : c < 9 := by omega
  have ev := hp_ev c c9
  obtain ⟨m, hm, eY⟩ : ∃ m, m < 256 ∧ (v1 &&& 254) &&& nI (2 ^ c - 1) = nI m :=
    ⟨_, Nat.lt_of_lt_of_le (Nat.mod_lt _ (Nat.two_pow_pos c)) (hp_evl c c9), pk_and _ c (hp_evn c c9)⟩
  have eX : (v1 &&& nI (2 ^ c - 1)) &&& (-2) = nI m := by
    rw [Int32.and_assoc, hp_254 c c9, ← Int32.and_assoc]
    exact eY
  refine nm_r ev (nm_r eX (Exists.intro 9 (hp_cost2 hc hm hT hV (fun a0 a1 b0 b1 => ?_) 8 0 9 a0 a1 b0 b1 rfl (by omega))))
  exact nm_r (e' := nI m) (by rw [ev]; exact eY) (hp_costY hc hT hm (And.intro rfl (hp_mk hc hT hV)))
theorem i_vc_leastForced {k : Nat} {u : SX} {v : SY} (I : i_Rel k u v) (hk : k + 5 ≤ 2560) : wpX_leastForced (fun r u' => wpY_leastForced (fun r' => r' = r ∧ i_Rel (k + 5) u' v) v) u := by
  refine hp_el (P := fun u v => wpX_leastForced (fun r u' => wpY_leastForced (fun r' => r' = r ∧ i_Rel (k + 5) u' v) v) u) ?_ I
  intro c aw a0 a1 b0 b1 T V xc xb xw hc hT hV
  refine hp_solve (aw := aw) (K := 0) hc (by omega) hT hV (fun aw a0 a1 b0 b1 xc xb xw hI => ?_)
  obtain ⟨k0, b, L, ⟨p1, p2, p3, p4, p5, p6⟩, e1, e2, e3⟩ := hp_fin0 hI
  exact hp_bestY hc hT p1 p2 p3 (And.intro e1.symm (hp_mk hc hT hV))
theorem i_vc_sortingForced {k : Nat} {u : SX} {v : SY} (I : i_Rel k u v) (hk : k + 5 ≤ 2560) : wpX_sortingForced (fun r u' => wpY_sortingForced (fun r' => r' = r ∧ i_Rel (k + 5) u' v) v) u := by
  refine hp_el (P := fun u v => wpX_sortingForced (fun r u' => wpY_sortingForced (fun r' => r' = r ∧ i_Rel (k + 5) u' v) v) u) ?_ I
  intro c aw a0 a1 b0 b1 T V xc xb xw hc hT hV
  refine hp_solve (aw := aw) (K := 0) hc (by omega) hT hV (fun aw a0 a1 b0 b1 xc xb xw hI => ?_)
  obtain ⟨k0, b, L, ⟨p1, p2, p3, p4, p5, p6⟩, e1, e2, e3⟩ := hp_fin0 hI
  exact hp_firstY hc hT p1 p2 p3 p4 (And.intro e2.symm (hp_mk hc hT hV))
theorem hp_solveE {T V : Nat → Int32} {post : SX → Prop} {c K : Nat} {x f aw a0 a1 b0 b1 : Int32} {xc xb xw : Nat → Int32} (hc : c ≤ 8) (hK : K < 256) (hT : hp_RT T) (hV : hp_RV V) (eK : x = nI K)
    (k : ∀ aw a0 a1 b0 b1 xc xb xw, hp_I (hp_G T V c f 8) (hp_AK K c) (hp_BC c) aw xc xb xw → post (nI c, aw, a0, a1, b0, b1, T, V, xc, xb, xw)) :
    wpX_solve post (nI c, aw, a0, a1, b0, b1, T, V, xc, xb, xw) x f := by
  subst eK
  exact hp_solve hc hK hT hV k
/-- there is a sorting to choose -/
theorem hp_some {c a b : Nat} {ap : Int32} (ha : a < c) (hb : b < c) (h01 : ap = 0 ∨ ap = 1) (hne : ap = 0 ∨ a ≠ b) : ∃ M, hp_so c M ∧ hp_df a b M = ap := by
  have one : ∀ q, q < c → q ≠ 0 → hp_so c (2 ^ q) := by
    intro q hq h0
    refine ⟨fun r hr => ?_, ?_⟩
    · rw [Nat.testBit_two_pow] at hr
      have := of_decide_eq_true hr
      omega
    · rw [Nat.testBit_two_pow]
      exact decide_eq_false h0
  rcases h01 with rfl | rfl
  · refine ⟨0, ⟨fun r hr => ?_, Nat.zero_testBit 0⟩, ?_⟩
    · rw [Nat.zero_testBit] at hr
      cases hr
    · exact if_pos (by rw [Nat.zero_testBit, Nat.zero_testBit])
  · have ne : a ≠ b := hne.resolve_left (by decide)
    by_cases z : a = 0
    · refine ⟨2 ^ b, one b hb (by omega), if_neg ?_⟩
      rw [Nat.testBit_two_pow_self, Nat.testBit_two_pow_of_ne (fun e => ne e.symm)]
      decide
    · refine ⟨2 ^ a, one a ha z, if_neg ?_⟩
      rw [Nat.testBit_two_pow_self, Nat.testBit_two_pow_of_ne ne]
      decide
theorem i_vc_leastWith {k : Nat} {u : SX} {v : SY} (I : i_Rel k u v) (hk : k + 5 ≤ 2560) (v1 : Int32) (v2 : Int32) (v3 : Int32) : wpX_leastWith (fun r u' => wpY_leastWith (fun r' => r' = r ∧ i_Rel (k + 5) u' v) v v1 v2 (lw_bz v3)) u v1 v2 (lw_bz v3) := by
  refine hp_el (P := fun u v => wpX_leastWith (fun r u' => wpY_leastWith (fun r' => r' = r ∧ i_Rel (k + 5) u' v) v v1 v2 (lw_bz v3)) u v1 v2 (lw_bz v3)) ?_ I
  intro c aw a0 a1 b0 b1 T V xc xb xw hc hT hV
  have h01 := lw_bz_01 v3
  generalize lw_bz v3 = ap at h01 ⊢
  by_cases n0 : v1 < 0
  · exact br_t n0 (br_f hp_10 (br_t n0 (br_f hp_10 (And.intro rfl (hp_mk hc hT hV)))))
  · obtain ⟨a, ha0, rfl⟩ := nI_of n0
    by_cases ha : a < c
    · have la : nI a < nI c := nI_lt ha (by omega)
      by_cases m0 : v2 < 0
      · exact br_f n0 (br_t la (br_t rfl (br_t m0 (br_f hp_10 (br_f n0 (br_t la (br_t rfl (br_t m0 (br_f hp_10 (And.intro rfl (hp_mk hc hT hV)))))))))))
      · obtain ⟨b, hb0, rfl⟩ := nI_of m0
        by_cases hb : b < c
        · have lb : nI b < nI c := nI_lt hb (by omega)
          by_cases good : ap = 0 ∨ a ≠ b
          · have e0 : nI a = nI b → ap = 0 := fun e => good.resolve_right (fun ne => ne ((nI_eq (by omega) (by omega)).mp e))
            have W : wX_leastWith_27 (fun r u' => wpY_leastWith (fun r' => r' = r ∧ i_Rel (k + 5) u' (nI c, V, T)) (nI c, V, T) (nI a) (nI b) ap) (nI a) (nI b) ap (nI c) aw a0 a1 b0 b1 T V xc xb xw := by
              refine nm_r (hp_shl a (by omega)) (nm_r (hp_shl b (by omega)) (hp_solveE (K := 2 ^ a ||| 2 ^ b) hc (hp_set_lt (hp_p2 (by omega)) (by omega)) hT hV (hp_or _ _) (fun aw a0 a1 b0 b1 xc xb xw hI => ?_)))
              refine Exists.intro 257 (hp_lwX_l hc ha hb (hp_Glt hc hT (Nat.le_refl 8)) rfl hI (hp_some ha hb h01 good) (fun q hw hlo => ?_) 256 0 257 1000000 rfl (by omega) (Nat.le_refl _) (Or.inl rfl) (fun M _ _ z => absurd z (Nat.not_lt_zero _)))
              obtain ⟨w, so, dw, gw⟩ := hw
              have hG := hp_G_le (V := V) (f := 0) (M := w) hT hc (Nat.le_refl 8)
              have Y : ∃ n34 : Nat, wY_leastWith_34 (fun r' => r' = nI q ∧ i_Rel (k + 5) (nI c, aw, a0, a1, b0, b1, T, V, xc, xb, xw) (nI c, V, T)) (nI a) (nI b) ap (nI c) V T n34 100000 0 :=
                Exists.intro 257 (hp_lwY_l hc (by omega) (by omega) hT so dw gw hlo (And.intro rfl (hp_mk hc hT hV)) 256 0 257 100000 rfl (by omega) (Nat.le_refl _) (by omega) (fun z => absurd z (Nat.not_lt_zero _)))
              exact br_f n0 (br_t la (br_t rfl (br_f m0 (br_t lb (br_t rfl (br_c (fun e => br_t (e0 e) Y) (fun _ => Y)))))))
            exact br_f n0 (br_t la (br_t rfl (br_f m0 (br_t lb (br_t rfl (br_c (fun e => br_t (e0 e) W) (fun _ => W)))))))
          · have z1 : ¬ ap = 0 := fun z => good (Or.inl z)
            have z2 : a = b := Classical.byContradiction (fun z => good (Or.inr z))
            subst z2
            exact br_f n0 (br_t la (br_t rfl (br_f m0 (br_t lb (br_t rfl (br_t rfl (br_f z1 (br_f n0 (br_t la (br_t rfl (br_f m0 (br_t lb (br_t rfl (br_t rfl (br_f z1 (And.intro rfl (hp_mk hc hT hV)))))))))))))))))
        · have lb : ¬ nI b < nI c := nI_nlt (by omega) hb0
          exact br_f n0 (br_t la (br_t rfl (br_f m0 (br_f lb (br_f hp_10 (br_f n0 (br_t la (br_t rfl (br_f m0 (br_f lb (br_f hp_10 (And.intro rfl (hp_mk hc hT hV)))))))))))))
    · have la : ¬ nI a < nI c := nI_nlt (by omega) ha0
      exact br_f n0 (br_f la (br_f hp_10 (br_f n0 (br_f la (br_f hp_10 (And.intro rfl (hp_mk hc hT hV)))))))
theorem i_vc_cover {k : Nat} {u : SX} {v : SY} (I : i_Rel k u v) (hk : k + 5 ≤ 2560) (v1 : Int32) : wpX_cover (fun r => wpY_cover (fun r' => r' = r ∧ i_Rel (k + 5) u v) v v1) u v1 := by
  refine hp_el (P := fun u v => wpX_cover (fun r => wpY_cover (fun r' => r' = r ∧ i_Rel (k + 5) u v) v v1) u v1) ?_ I
  intro c aw a0 a1 b0 b1 T V xc xb xw hc hT hV
  by_cases n0 : v1 < 0
  · exact br_t n0 (br_t n0 (And.intro rfl (hp_mk hc hT hV)))
  · obtain ⟨s, hs, rfl⟩ := nI_of n0
    by_cases s8 : s < 8
    · have l8 : nI s < 8 := nI_lt (b := 8) s8 (by omega)
      have l7 : nI s ≤ 7 := nI_le (b := 7) (by omega) (by omega)
      obtain ⟨r, hX, hY⟩ := hp_cov (aw := aw) (a0 := a0) (a1 := a1) (b0 := b0) (b1 := b1) (T := T) (V := V) (xc := xc) (xb := xb) (xw := xw) hc s8 c 0 0 (Nat.zero_add c)
      exact br_f n0 (br_t l8 (Exists.intro (c + 1) (hX _ (br_f n0 (br_t l7 (Exists.intro (c + 1) (hY _ (And.intro rfl (hp_mk hc hT hV)))))))))
    · have l8 : ¬ nI s < 8 := nI_nlt (b := 8) (by omega) hs
      have l7 : ¬ nI s ≤ 7 := nI_ge (a := 7) (b := s) (by omega) hs
      exact br_f n0 (br_f l8 (br_f n0 (br_f l7 (And.intro rfl (hp_mk hc hT hV)))))
end
