section
/-! ===== Int32 by its bits: bt x i ===== -/
def bt (x : Int32) (i : Nat) : Bool := x.toBitVec.getLsbD i
theorem b_ext {x y : Int32} (h : ∀ i, i < 32 → bt x i = bt y i) : x = y := Int32.toBitVec_inj.mp (BitVec.eq_of_getLsbD_eq (fun i hi => h i hi))
theorem b_or (x y : Int32) (i : Nat) : bt (x ||| y) i = (bt x i || bt y i) := by unfold bt; rw [Int32.toBitVec_or, BitVec.getLsbD_or]
theorem b_and (x y : Int32) (i : Nat) : bt (x &&& y) i = (bt x i && bt y i) := by unfold bt; rw [Int32.toBitVec_and, BitVec.getLsbD_and]
theorem b_xor (x y : Int32) (i : Nat) : bt (x ^^^ y) i = (bt x i ^^ bt y i) := by unfold bt; rw [Int32.toBitVec_xor, BitVec.getLsbD_xor]
theorem b_big {x : Int32} {i : Nat} (h : 32 ≤ i) : bt x i = false := BitVec.getLsbD_of_ge _ _ h
theorem b_255 (i : Nat) : bt 255 i = decide (i < 8) := by
  rcases Nat.lt_or_ge i 32 with h | h
  · exact (by decide +kernel : ∀ i, i < 32 → bt 255 i = decide (i < 8)) i h
  · rw [b_big h, decide_eq_false (by omega)]
theorem b_65535 (i : Nat) : bt 65535 i = decide (i < 16) := by
  rcases Nat.lt_or_ge i 32 with h | h
  · exact (by decide +kernel : ∀ i, i < 32 → bt 65535 i = decide (i < 16)) i h
  · rw [b_big h, decide_eq_false (by omega)]
theorem b_m1 : ∀ i, i < 32 → bt (-1) i = true := by decide +kernel
theorem b_0 (i : Nat) : bt 0 i = false := BitVec.getLsbD_zero
theorem s_l : ∀ n, n < 32 → ((nI n &&& 31).toBitVec.smod 32).toNat = n := by decide +kernel
theorem s_u : ∀ n, n < 32 → (((nI n).toUInt32 &&& Int32.toUInt32 31).toBitVec % 32).toNat = n := by decide +kernel
theorem b_shl (n : Nat) (hn : n < 32) (x : Int32) {i : Nat} (hi : i < 32) : bt (x <<< (nI n &&& 31)) i = (decide (n ≤ i) && bt x (i - n)) := by
  unfold bt
  rw [Int32.toBitVec_shiftLeft]
  show (x.toBitVec <<< ((nI n &&& 31).toBitVec.smod 32).toNat).getLsbD i = _
  rw [s_l n hn, BitVec.getLsbD_shiftLeft]
  rcases Nat.lt_or_ge i n with h | h
  · simp [h, Nat.not_le.mpr h]
  · simp [hi, h, Nat.not_lt.mpr h]
theorem b_ushr (n : Nat) (hn : n < 32) (x : Int32) (i : Nat) : bt ((x.toUInt32 >>> ((nI n).toUInt32 &&& Int32.toUInt32 31)).toInt32) i = bt x (n + i) := by
  show (x.toUInt32 >>> ((nI n).toUInt32 &&& Int32.toUInt32 31)).toBitVec.getLsbD i = x.toUInt32.toBitVec.getLsbD (n + i)
  rw [UInt32.toBitVec_shiftRight]
  show (x.toUInt32.toBitVec >>> (((nI n).toUInt32 &&& Int32.toUInt32 31).toBitVec % 32).toNat).getLsbD i = _
  rw [s_u n hn, BitVec.getLsbD_ushiftRight]
theorem b_sshr (n : Nat) (hn : n < 32) (x : Int32) {i : Nat} (hi : i < 32) : bt (x >>> (nI n &&& 31)) i = if n + i < 32 then bt x (n + i) else bt x 31 := by
  unfold bt
  rw [Int32.toBitVec_shiftRight]
  show (x.toBitVec.sshiftRight ((nI n &&& 31).toBitVec.smod 32).toNat).getLsbD i = _
  rw [s_l n hn, BitVec.getLsbD_sshiftRight, BitVec.msb_eq_getLsbD_last]
  simp [hi]
theorem b_shl8 (x : Int32) {i : Nat} (hi : i < 32) : bt (x <<< ((8 : Int32) &&& 31)) i = (decide (8 ≤ i) && bt x (i - 8)) := b_shl 8 (by omega) x hi
theorem b_shl16 (x : Int32) {i : Nat} (hi : i < 32) : bt (x <<< ((16 : Int32) &&& 31)) i = (decide (16 ≤ i) && bt x (i - 16)) := b_shl 16 (by omega) x hi
theorem b_shl24 (x : Int32) {i : Nat} (hi : i < 32) : bt (x <<< ((24 : Int32) &&& 31)) i = (decide (24 ≤ i) && bt x (i - 24)) := b_shl 24 (by omega) x hi
theorem b_sshr8 (x : Int32) {i : Nat} (hi : i < 32) : bt (x >>> ((8 : Int32) &&& 31)) i = if 8 + i < 32 then bt x (8 + i) else bt x 31 := b_sshr 8 (by omega) x hi
theorem pk_us {f : Nat → Int32} {k : Nat} {x : Int32} : upd f k x k = x := if_pos rfl
theorem pk_un {f : Nat → Int32} {k j : Nat} {x : Int32} (h : j ≠ k) : upd f k x j = f j := if_neg h
theorem pk_sub {a b : Nat} (h : b ≤ a) : nI a - nI b = nI (a - b) := by
  obtain ⟨c, rfl⟩ : ∃ c, a = c + b := ⟨a - b, by omega⟩
  rw [← nI_add, Int32.add_sub_cancel, Nat.add_sub_cancel]
theorem pk_m1 (n : Nat) : nI (n + 1) + (-1) = nI n := by
  rw [← nI_1, Int32.add_assoc, show (1 : Int32) + (-1) = 0 from rfl, Int32.add_zero]
theorem pk_sub_toInt {a b : Nat} (ha : a < 2 ^ 30) (hb : b < 2 ^ 30) : (nI a - nI b).toInt = (a : Int) - b := by
  rw [Int32.toInt_sub, nI_toInt (by omega), nI_toInt (by omega)]
  exact Int.bmod_eq_of_le (by omega) (by omega)
theorem pk_sneg {a b : Nat} (hb : b < 2 ^ 30) (h : a < b) : nI a - nI b < 0 := by
  rw [Int32.lt_iff_toInt_lt, pk_sub_toInt (by omega) hb, show (0 : Int32).toInt = 0 from by decide]
  omega
theorem pk_ix (x : Int32) {n : Nat} (hn : n < 2 ^ 31) : x < 0 ∨ nI n ≤ x ∨ ∃ j : Nat, j < n ∧ x = nI j := by
  by_cases h : x < 0
  · exact Or.inl h
  · obtain ⟨j, hj, rfl⟩ := nI_of h
    by_cases h2 : j < n
    · exact Or.inr (Or.inr ⟨j, h2, rfl⟩)
    · exact Or.inr (Or.inl (nI_le (by omega) hj))
theorem pk_le {x y : Int32} {A B : Prop} (a b : Nat) (f : a ≤ b → A) (g : b < a → B) (hx : x = nI a := by rfl) (hy : y = nI b := by rfl) (ha : a < 2 ^ 31 := by omega) (hb : b < 2 ^ 31 := by omega) : (x ≤ y → A) ∧ (¬ x ≤ y → B) := by
  subst hx hy
  rw [nI_leI ha hb]
  exact ⟨f, fun z => g (by omega)⟩
theorem pk_lt {x y : Int32} {A B : Prop} (a b : Nat) (f : a < b → A) (g : b ≤ a → B) (hx : x = nI a := by rfl) (hy : y = nI b := by rfl) (ha : a < 2 ^ 31 := by omega) (hb : b < 2 ^ 31 := by omega) : (x < y → A) ∧ (¬ x < y → B) := by
  subst hx hy
  rw [nI_ltI ha hb]
  exact ⟨f, fun z => g (by omega)⟩
theorem pk_eq {x y : Int32} {A B : Prop} (a b : Nat) (f : a = b → A) (g : a ≠ b → B) (hx : x = nI a := by rfl) (hy : y = nI b := by rfl) (ha : a < 2 ^ 31 := by omega) (hb : b < 2 ^ 31 := by omega) : (x = y → A) ∧ (¬ x = y → B) := by
  subst hx hy
  rw [nI_eq ha hb]
  exact ⟨f, g⟩
theorem pk_in {x : Int32} (n N : Nat) (h : n < N) (hx : x = nI n := by rfl) (hN : N < 2 ^ 31 := by omega) : vp_in x N := by
  subst hx
  exact vp_in_nI h hN
theorem pk_cl {x : Int32} (n : Nat) (hx : x = nI n := by rfl) (h : n < 2 ^ 31 := by omega) : x.toNatClampNeg = n := by
  subst hx
  exact nI_clamp h
theorem pk_tn {n : Nat} (h : n < 2 ^ 32) : (nI n).toBitVec.toNat = n := Nat.mod_eq_of_lt h
theorem ek_if {c d A B : Prop} (e : c ↔ d) (f : d → A) (g : ¬ d → B) : (c → A) ∧ (¬ c → B) :=
  ⟨fun z => f (e.mp z), fun z => g (fun y => z (e.mpr y))⟩
theorem ek_v {α : Sort _} {P : α → Prop} {a b : α} (e : a = b) (h : P b) : P a := e ▸ h
end
section
/-! ===== matchings as involutions ===== -/
def mg_G (G : Nat → Nat → Prop) : Prop := ∀ x y, G x y → G y x ∧ x < 10 ∧ y < 10 ∧ x ≠ y
def mg_M (G : Nat → Nat → Prop) (m : Nat → Nat) : Prop := (∀ x, m (m x) = x) ∧ ∀ x, m x ≠ x → G x (m x)
def mg_del (m : Nat → Nat) (a b : Nat) : Nat → Nat := fun x => if x = a then a else if x = b then b else m x
def mg_add (m : Nat → Nat) (a b : Nat) : Nat → Nat := fun x => if x = a then b else if x = b then a else m x
def mg_cn (f : Nat → Bool) : Nat → Nat
  | 0 => 0
  | n + 1 => mg_cn f n + (if f n = true then 1 else 0)
def mg_sz (m : Nat → Nat) : Nat := mg_cn (fun x => decide (m x ≠ x)) 10
theorem mg_cn_congr {f g : Nat → Bool} {n : Nat} (h : ∀ x, x < n → f x = g x) : mg_cn f n = mg_cn g n := by
  induction n with
  | zero => rfl
  | succ n ih =>
    show mg_cn f n + _ = mg_cn g n + _
    rw [ih (fun x hx => h x (by omega)), h n (by omega)]
theorem mg_cn_mono {f g : Nat → Bool} {n : Nat} (h : ∀ x, x < n → f x = true → g x = true) : mg_cn f n ≤ mg_cn g n := by
  induction n with
  | zero => exact Nat.le_refl _
  | succ n ih =>
    have h1 := ih (fun x hx => h x (by omega))
    have h2 := h n (by omega)
    show mg_cn f n + (if f n = true then 1 else 0) ≤ mg_cn g n + (if g n = true then 1 else 0)
    by_cases e : f n = true
    · rw [if_pos e, if_pos (h2 e)]; omega
    · rw [if_neg e]; omega
theorem mg_cn_1 {f g : Nat → Bool} {a n : Nat} (ha : a < n) (hf : f a = false) (hg : g a = true) (h : ∀ x, x ≠ a → g x = f x) : mg_cn g n = mg_cn f n + 1 := by
  induction n with
  | zero => omega
  | succ n ih =>
    show mg_cn g n + (if g n = true then 1 else 0) = mg_cn f n + (if f n = true then 1 else 0) + 1
    by_cases e : a = n
    · subst e
      rw [mg_cn_congr (f := g) (g := f) (fun x hx => h x (by omega)), if_pos hg, hf]
      rfl
    · rw [ih (by omega), h n (by omega)]
      omega
theorem mg_cn_pos {f : Nat → Bool} {a n : Nat} (ha : a < n) (hf : f a = true) : 0 < mg_cn f n := by
  induction n with
  | zero => omega
  | succ n ih =>
    show 0 < mg_cn f n + (if f n = true then 1 else 0)
    by_cases e : a = n
    · subst e; rw [if_pos hf]; omega
    · have := ih (by omega)
      omega
theorem mg_cn_le (f : Nat → Bool) (n : Nat) : mg_cn f n ≤ n := by
  induction n with
  | zero => exact Nat.le_refl _
  | succ n ih =>
    show mg_cn f n + (if f n = true then 1 else 0) ≤ n + 1
    split <;> omega
theorem mg_sz_le (m : Nat → Nat) : mg_sz m ≤ 10 := mg_cn_le _ _
theorem mg_sz_mono {m n : Nat → Nat} (h : ∀ x, x < 10 → m x ≠ x → n x ≠ x) : mg_sz m ≤ mg_sz n :=
  mg_cn_mono (fun x hx e => decide_eq_true (h x hx (of_decide_eq_true e)))
theorem mg_sz_pos {m : Nat → Nat} {v : Nat} (hv : v < 10) (h : m v ≠ v) : 0 < mg_sz m := mg_cn_pos hv (decide_eq_true h)
theorem mg_sz_1 {m n : Nat → Nat} {a : Nat} (ha : a < 10) (hm : m a = a) (hn : ∀ x, n x ≠ x ↔ (m x ≠ x ∨ x = a)) : mg_sz n = mg_sz m + 1 := by
  refine mg_cn_1 ha (decide_eq_false (by simp [hm])) (decide_eq_true ((hn a).mpr (Or.inr rfl))) (fun x hx => ?_)
  have := hn x
  by_cases e : m x = x
  · have e2 : n x = x := by
      by_cases e3 : n x = x
      · exact e3
      · have := this.mp e3
        simp [e, hx] at this
    simp [e, e2]
  · have e2 : n x ≠ x := this.mpr (Or.inl e)
    simp [e, e2]
theorem mg_dec {P Q : Prop} [Decidable P] [Decidable Q] (h : P ↔ Q) : decide P = decide Q := decide_eq_decide.mpr h
theorem mg_sz_2 {m n : Nat → Nat} {a b : Nat} (ha : a < 10) (hb : b < 10) (hab : a ≠ b) (hm : m a = a) (hmb : m b = b) (hn : ∀ x, n x ≠ x ↔ (m x ≠ x ∨ x = a ∨ x = b)) : mg_sz n = mg_sz m + 2 := by
  have e1 : mg_cn (fun x => decide (m x ≠ x ∨ x = a)) 10 = mg_sz m + 1 := by
    refine mg_cn_1 ha (decide_eq_false (by simp [hm])) (decide_eq_true (Or.inr rfl)) (fun x hx => mg_dec (by simp [hx]))
  have e2 : mg_sz n = mg_cn (fun x => decide (m x ≠ x ∨ x = a)) 10 + 1 := by
    refine mg_cn_1 hb (decide_eq_false (by simp [hmb, Ne.symm hab])) (decide_eq_true ((hn b).mpr (Or.inr (Or.inr rfl)))) (fun x hx => mg_dec ?_)
    rw [hn x]; simp [hx]
  omega
theorem mg_sz_s {m n : Nat → Nat} {v z : Nat} (hv : v < 10) (hz : z < 10) (hm : m v ≠ v) (hmz : m z = z) (hn : ∀ x, n x ≠ x ↔ ((m x ≠ x ∧ x ≠ v) ∨ x = z)) : mg_sz n = mg_sz m := by
  have hvz : v ≠ z := fun e => hm (by rw [e]; exact hmz)
  have e1 : mg_sz m = mg_cn (fun x => decide (m x ≠ x ∧ x ≠ v)) 10 + 1 := by
    refine mg_cn_1 hv (decide_eq_false (by simp)) (decide_eq_true hm) (fun x hx => mg_dec (by simp [hx]))
  have e2 : mg_sz n = mg_cn (fun x => decide (m x ≠ x ∧ x ≠ v)) 10 + 1 := by
    refine mg_cn_1 hz (decide_eq_false (by simp [hmz])) (decide_eq_true ((hn z).mpr (Or.inr rfl))) (fun x hx => mg_dec ?_)
    rw [hn x]; simp [hx]
  omega
theorem mg_add_ne {m : Nat → Nat} {a b : Nat} (hab : a ≠ b) (x : Nat) : mg_add m a b x ≠ x ↔ (m x ≠ x ∨ x = a ∨ x = b) := by
  unfold mg_add
  by_cases e : x = a
  · subst e; simp [Ne.symm hab]
  · by_cases e2 : x = b
    · subst e2; simp [hab, e]
    · simp [e, e2]
theorem mg_del_ne {m : Nat → Nat} {a b : Nat} (x : Nat) : mg_del m a b x ≠ x ↔ (m x ≠ x ∧ x ≠ a ∧ x ≠ b) := by
  unfold mg_del
  by_cases e : x = a
  · subst e; simp
  · by_cases e2 : x = b
    · subst e2; simp [e]
    · simp [e, e2]
theorem mg_addM {G : Nat → Nat → Prop} {m : Nat → Nat} {a b : Nat} (hG : mg_G G) (h : mg_M G m) (ha : m a = a) (hb : m b = b) (hab : G a b) : mg_M G (mg_add m a b) := by
  obtain ⟨h1, h2⟩ := h
  obtain ⟨g1, -, -, g4⟩ := hG a b hab
  refine ⟨fun x => ?_, fun x hx => ?_⟩
  · have := h1 x
    unfold mg_add
    grind
  · have := h2 x
    unfold mg_add at hx ⊢
    grind
theorem mg_delM {G : Nat → Nat → Prop} {m : Nat → Nat} {a b : Nat} (h : mg_M G m) (e : m a = b) : mg_M G (mg_del m a b) := by
  obtain ⟨h1, h2⟩ := h
  refine ⟨fun x => ?_, fun x hx => ?_⟩
  · have := h1 x
    have := h1 a
    unfold mg_del
    grind
  · have := h2 x
    unfold mg_del at hx ⊢
    grind
theorem mg_add_a {m : Nat → Nat} {a b : Nat} : mg_add m a b a = b := if_pos rfl
theorem mg_add_b {m : Nat → Nat} {a b : Nat} : mg_add m a b b = a := by
  unfold mg_add
  by_cases e : b = a
  · simp [e]
  · simp [e]
theorem mg_add_o {m : Nat → Nat} {a b x : Nat} (h1 : x ≠ a) (h2 : x ≠ b) : mg_add m a b x = m x := by unfold mg_add; simp [h1, h2]
theorem mg_del_a {m : Nat → Nat} {a b : Nat} : mg_del m a b a = a := if_pos rfl
theorem mg_del_b {m : Nat → Nat} {a b : Nat} : mg_del m a b b = b := by
  unfold mg_del
  by_cases e : b = a
  · simp [e]
  · simp [e]
theorem mg_del_o {m : Nat → Nat} {a b x : Nat} (h1 : x ≠ a) (h2 : x ≠ b) : mg_del m a b x = m x := by unfold mg_del; simp [h1, h2]
/-- the exchange between two matchings at a vertex that the first covers and the second doesn't -/
theorem mg_ex {G : Nat → Nat → Prop} (hG : mg_G G) : ∀ (k : Nat) (M N : Nat → Nat) (v : Nat), mg_M G M → mg_M G N → mg_sz M ≤ k → M v ≠ v → N v = v → ∃ M' N', mg_M G M' ∧ mg_M G N' ∧ ((∃ u, u ≠ v ∧ M u ≠ u ∧ N u = u ∧ (∀ x, M' x ≠ x ↔ (M x ≠ x ∧ x ≠ v ∧ x ≠ u)) ∧ (∀ x, N' x ≠ x ↔ (N x ≠ x ∨ x = v ∨ x = u))) ∨ (∃ z, N z ≠ z ∧ M z = z ∧ (∀ x, M' x ≠ x ↔ ((M x ≠ x ∧ x ≠ v) ∨ x = z)) ∧ (∀ x, N' x ≠ x ↔ ((N x ≠ x ∧ x ≠ z) ∨ x = v)))) := by
  intro k
  induction k with
  | zero =>
    intro M N v hM hN hk hv _
    have := mg_sz_pos (hG _ _ (hM.2 v hv)).2.1 hv
    omega
  | succ k ih =>
    intro M N v hM hN hk hv hNv
    obtain ⟨w', hw'⟩ : ∃ w', w' = M v := ⟨_, rfl⟩
    have hg := hM.2 v hv
    rw [← hw'] at hg hv
    have hgg := hG _ _ hg
    have hMw' : M w' = v := by rw [hw']; exact hM.1 v
    by_cases hb : N w' = w'
    · refine ⟨mg_del M v w', mg_add N v w', mg_delM hM hw'.symm, mg_addM hG hN hNv hb hg, Or.inl ⟨w', hv, ?_, hb, ?_, ?_⟩⟩
      · rw [hMw']; exact hgg.2.2.2
      · intro x; rw [mg_del_ne]
      · intro x; rw [mg_add_ne hgg.2.2.2]
    · obtain ⟨w, hw⟩ : ∃ w, w = N w' := ⟨_, rfl⟩
      have hg2 := hN.2 w' hb
      rw [← hw] at hg2
      have hgg2 := hG _ _ hg2
      have hNw : N w = w' := by rw [hw]; exact hN.1 w'
      have hwv : w ≠ v := by
        intro e
        rw [e, hNv] at hNw
        exact hgg.2.2.2 hNw
      have hM1 : mg_M G (mg_del M v w') := mg_delM hM hw'.symm
      have hN1 : mg_M G (mg_del N w' w) := mg_delM hN hw.symm
      by_cases hc : M w = w
      · refine ⟨mg_add (mg_del M v w') w' w, mg_add (mg_del N w' w) v w', mg_addM hG hM1 mg_del_b (by rw [mg_del_o hwv (Ne.symm hgg2.2.2.2)]; exact hc) hg2, mg_addM hG hN1 (by rw [mg_del_o hgg.2.2.2 (Ne.symm hwv)]; exact hNv) mg_del_a hg, Or.inr ⟨w, ?_, hc, ?_, ?_⟩⟩
        · rw [hNw]; exact hgg2.2.2.2
        · intro x
          rw [mg_add_ne hgg2.2.2.2, mg_del_ne]
          have h1 : M w' ≠ w' := by rw [hMw']; exact hgg.2.2.2
          have h2 := hgg.2.2.2
          grind
        · intro x
          rw [mg_add_ne hgg.2.2.2, mg_del_ne]
          have h2 := hgg2.2.2.2
          grind
      · have hM1w : mg_del M v w' w ≠ w := by rw [mg_del_o hwv (Ne.symm hgg2.2.2.2)]; exact hc
        have hsz : mg_sz (mg_del M v w') + 2 = mg_sz M := by
          refine (mg_sz_2 hgg.2.1 hgg.2.2.1 hgg.2.2.2 mg_del_a mg_del_b (fun x => ?_)).symm
          rw [mg_del_ne]
          have h1 : M w' ≠ w' := by rw [hMw']; exact hgg.2.2.2
          have h2 : M v ≠ v := by rw [← hw']; exact hv
          grind
        obtain ⟨M', N', hM', hN', hh⟩ := ih (mg_del M v w') (mg_del N w' w) w hM1 hN1 (by omega) hM1w mg_del_b
        have hnv : N v = v := hNv
        have h1 : M w' ≠ w' := by rw [hMw']; exact hgg.2.2.2
        have h2 : M v ≠ v := by rw [← hw']; exact hv
        have h3 : N w ≠ w := by rw [hNw]; exact hgg2.2.2.2
        have d1 := hgg.2.2.2
        have d2 := hgg2.2.2.2
        rcases hh with ⟨u, hu1, hu2, hu3, huM, huN⟩ | ⟨z, hz1, hz2, hzM, hzN⟩
        · rw [mg_del_ne] at hu2
          have hu3' : N u = u := by
            by_cases e : u = w
            · exact absurd e hu1
            · rw [mg_del_o hu2.2.2 e] at hu3; exact hu3
          have f1 : M' w' = w' := by
            by_cases e : M' w' = w'
            · exact e
            · exact absurd rfl ((mg_del_ne _).mp ((huM w').mp e).1).2.2
          have f2 : M' w = w := by
            by_cases e : M' w = w
            · exact e
            · exact absurd rfl ((huM w).mp e).2.1
          have f3 : N' v = v := by
            by_cases e : N' v = v
            · exact e
            · have := (huN v).mp e
              rw [mg_del_ne] at this
              grind
          have f4 : N' w' = w' := by
            by_cases e : N' w' = w'
            · exact e
            · have := (huN w').mp e
              rw [mg_del_ne] at this
              grind
          refine ⟨mg_add M' w' w, mg_add N' v w', mg_addM hG hM' f1 f2 hg2, mg_addM hG hN' f3 f4 hg, Or.inl ⟨u, hu2.2.1, hu2.1, hu3', ?_, ?_⟩⟩
          · intro x
            rw [mg_add_ne d2, huM x, mg_del_ne]
            grind
          · intro x
            rw [mg_add_ne d1, huN x, mg_del_ne]
            grind
        · rw [mg_del_ne] at hz1
          have hz2' : M z = z := by
            by_cases e : z = v
            · exact absurd (by rw [e]; exact hnv) hz1.1
            · rw [mg_del_o e hz1.2.1] at hz2; exact hz2
          have f1 : M' w' = w' := by
            by_cases e : M' w' = w'
            · exact e
            · have := (hzM w').mp e
              rw [mg_del_ne] at this
              grind
          have f2 : M' w = w := by
            by_cases e : M' w = w
            · exact e
            · have := (hzM w).mp e
              rw [mg_del_ne] at this
              grind
          have f3 : N' v = v := by
            by_cases e : N' v = v
            · exact e
            · have := (hzN v).mp e
              rw [mg_del_ne] at this
              grind
          have f4 : N' w' = w' := by
            by_cases e : N' w' = w'
            · exact e
            · have := (hzN w').mp e
              rw [mg_del_ne] at this
              grind
          refine ⟨mg_add M' w' w, mg_add N' v w', mg_addM hG hM' f1 f2 hg2, mg_addM hG hN' f3 f4 hg, Or.inr ⟨z, hz1.1, hz2', ?_, ?_⟩⟩
          · intro x
            rw [mg_add_ne d2, hzM x, mg_del_ne]
            grind
          · intro x
            rw [mg_add_ne d1, hzN x, mg_del_ne]
            grind
/-- a matching such that no exposed vertex can be covered besides all that it covers is a greatest one -/
theorem mg_aug {G : Nat → Nat → Prop} (hG : mg_G G) {M : Nat → Nat} (hM : mg_M G M) (H : ∀ r M', M r = r → mg_M G M' → (∀ x, M x ≠ x → M' x ≠ x) → M' r = r) : ∀ (k : Nat) (N : Nat → Nat), mg_M G N → mg_cn (fun x => decide (N x ≠ x ∧ M x = x)) 10 ≤ k → mg_sz N ≤ mg_sz M := by
  intro k
  induction k with
  | zero =>
    intro N hN hk
    refine mg_sz_mono (fun x hx e e2 => ?_)
    have := mg_cn_pos (f := fun x => decide (N x ≠ x ∧ M x = x)) hx (decide_eq_true ⟨e, e2⟩)
    omega
  | succ k ih =>
    intro N hN hk
    by_cases hr : ∃ r, N r ≠ r ∧ M r = r
    · obtain ⟨r, hr1, hr2⟩ := hr
      have hr10 := (hG _ _ (hN.2 r hr1)).2.1
      obtain ⟨N', M', hN', hM', hh⟩ := mg_ex hG 10 N M r hN hM (mg_sz_le _) hr1 hr2
      rcases hh with ⟨u, -, -, -, -, huM⟩ | ⟨z, hz1, hz2, hzN, hzM⟩
      · exact absurd (H r M' hr2 hM' (fun x hx => (huM x).mpr (Or.inl hx))) ((huM r).mpr (Or.inr (Or.inl rfl)))
      · have hz10 := (hG _ _ (hM.2 z hz1)).2.1
        rw [← mg_sz_s hr10 hz10 hr1 hz2 hzN]
        refine ih N' hN' ?_
        have : mg_cn (fun x => decide (N x ≠ x ∧ M x = x)) 10 = mg_cn (fun x => decide (N' x ≠ x ∧ M x = x)) 10 + 1 := by
          refine mg_cn_1 hr10 (decide_eq_false ?_) (decide_eq_true ⟨hr1, hr2⟩) (fun x hx => mg_dec ?_)
          · intro h
            have := (hzN r).mp h.1
            grind
          · rw [hzN x]
            grind
        omega
    · refine mg_sz_mono (fun x hx e e2 => hr ⟨x, e, e2⟩)
/-- k is the greatest number of edges of a matching of G -/
def mg_mx (G : Nat → Nat → Prop) (k : Nat) : Prop := (∃ m, mg_M G m ∧ mg_sz m = 2 * k) ∧ ∀ m, mg_M G m → mg_sz m ≤ 2 * k
theorem mg_mx_u {G : Nat → Nat → Prop} {a b : Nat} (ha : mg_mx G a) (hb : mg_mx G b) : a = b := by
  obtain ⟨⟨m, hm, em⟩, h1⟩ := ha
  obtain ⟨⟨n, hn, en⟩, h2⟩ := hb
  have := h1 n hn
  have := h2 m hm
  omega
theorem mg_mx_le {G : Nat → Nat → Prop} {a : Nat} (ha : mg_mx G a) : a ≤ 5 := by
  obtain ⟨⟨m, hm, em⟩, h1⟩ := ha
  have := mg_sz_le m
  omega
theorem mg_M_sub {G K : Nat → Nat → Prop} {m : Nat → Nat} (h : ∀ x y, K x y → G x y) (hm : mg_M K m) : mg_M G m := ⟨hm.1, fun x hx => h _ _ (hm.2 x hx)⟩
theorem mg_mx_mono {G K : Nat → Nat → Prop} {a b : Nat} (h : ∀ x y, K x y → G x y) (ha : mg_mx K a) (hb : mg_mx G b) : a ≤ b := by
  obtain ⟨⟨m, hm, em⟩, h1⟩ := ha
  have := hb.2 m (mg_M_sub h hm)
  omega
theorem mg_id (G : Nat → Nat → Prop) : mg_M G (fun x => x) := ⟨fun _ => rfl, fun _ h => absurd rfl h⟩
theorem mg_mx_iff {G K : Nat → Nat → Prop} {a : Nat} (h : ∀ x y, K x y ↔ G x y) (ha : mg_mx K a) : mg_mx G a :=
  ⟨ha.1.elim (fun m e => ⟨m, mg_M_sub (fun x y => (h x y).mp) e.1, e.2⟩), fun m hm => ha.2 m (mg_M_sub (fun x y => (h x y).mpr) hm)⟩
end
section
/-! ===== parity, pigeonhole, the certificate of a failed search ===== -/
theorem mc_par (f : Nat → Nat) : ∀ (n : Nat) (l : List Nat), l.length ≤ n → l.Nodup → (∀ x, x ∈ l → f x ∈ l ∧ f (f x) = x ∧ f x ≠ x) → l.length % 2 = 0 := by
  intro n
  induction n with
  | zero =>
    intro l hl _ _
    have : l.length = 0 := by omega
    rw [this]
  | succ n ih =>
    intro l hl hd hf
    cases l with
    | nil => rfl
    | cons a t =>
      have hd' := List.nodup_cons.mp hd
      obtain ⟨h1, h2, h3⟩ := hf a (List.mem_cons_self)
      have hat : f a ∈ t := by
        rcases List.mem_cons.mp h1 with e | e
        · exact absurd e h3
        · exact e
      have hlen : (t.erase (f a)).length = t.length - 1 := List.length_erase_of_mem hat
      have hpos : 0 < t.length := List.length_pos_of_mem hat
      have hl' : t.length + 1 ≤ n + 1 := hl
      have := ih (t.erase (f a)) (by omega) (hd'.2.erase _) (fun x hx => by
        obtain ⟨e1, e2⟩ := (hd'.2.mem_erase_iff).mp hx
        obtain ⟨k1, k2, k3⟩ := hf x (List.mem_cons_of_mem _ e2)
        refine ⟨(hd'.2.mem_erase_iff).mpr ⟨fun e => ?_, ?_⟩, k2, k3⟩
        · have : x = a := by rw [← k2, e, h2]
          exact hd'.1 (this ▸ e2)
        · rcases List.mem_cons.mp k1 with e | e
          · exact absurd (by rw [← k2, e]) e1
          · exact e)
      show (t.length + 1) % 2 = 0
      omega
theorem mc_map {f : Nat → Nat} : ∀ {l : List Nat}, l.Nodup → (∀ x, x ∈ l → ∀ y, y ∈ l → f x = f y → x = y) → (l.map f).Nodup := by
  intro l
  induction l with
  | nil => intro _ _; exact List.nodup_nil
  | cons a t ih =>
    intro hd hi
    have hd' := List.nodup_cons.mp hd
    rw [List.map_cons]
    refine List.nodup_cons.mpr ⟨fun h => ?_, ih hd'.2 (fun x hx y hy => hi x (List.mem_cons_of_mem _ hx) y (List.mem_cons_of_mem _ hy))⟩
    obtain ⟨y, hy, e⟩ := List.mem_map.mp h
    have := hi y (List.mem_cons_of_mem _ hy) a List.mem_cons_self e
    exact hd'.1 (this ▸ hy)
theorem mc_ten {l : List Nat} (hd : l.Nodup) (h : ∀ x, x ∈ l → x < 10) : l.length ≤ 10 := by
  have := hd.length_le_of_subset (l₂ := List.range 10) (fun x hx => List.mem_range.mpr (h x hx))
  rw [List.length_range] at this
  exact this
theorem mc_nine {l : List Nat} {r : Nat} (hd : l.Nodup) (hr : r < 10) (hn : r ∉ l) (h : ∀ x, x ∈ l → x < 10) : l.length < 10 := by
  have := mc_ten (l := r :: l) (List.nodup_cons.mpr ⟨hn, hd⟩) (fun x hx => by
    rcases List.mem_cons.mp hx with e | e
    · exact e ▸ hr
    · exact h x e)
  rw [List.length_cons] at this
  omega
theorem mc_cert {G : Nat → Nat → Prop} {m : Nat → Nat} (hm : mg_M G m) {q : List Nat} {b : Nat → Nat} {r : Nat} (hq : q.Nodup) (hr : r ∈ q) (hmr : m r = r) (hbr : b r = r)
    (hb1 : ∀ x, x ∈ q → b x ∈ q ∧ b (b x) = b x) (hb2 : ∀ x, x ∈ q → b x ≠ x → m x ∈ q ∧ b (m x) = b x ∧ m x ≠ b x ∧ m x ≠ x)
    {O : Nat → Prop} (hO : ∀ x, O x → x ∉ q ∧ m x ∈ q ∧ b (m x) = m x ∧ m x ≠ x) (hE : ∀ x, x ∈ q → ∀ y, G x y → O y ∨ (y ∈ q ∧ b x = b y))
    {N : Nat → Nat} (hN : mg_M G N) : ∃ x, x ∈ q ∧ N x = x := by
  refine Classical.byContradiction (fun hc => ?_)
  have hall : ∀ x, x ∈ q → N x ≠ x := fun x hx e => hc ⟨x, hx, e⟩
  have step : ∀ β, ∃ x, β ∈ q → b β = β → x ∈ q ∧ b x = β ∧ O (N x) := by
    intro β
    by_cases hβ : β ∈ q ∧ b β = β
    · refine Classical.byContradiction (fun hc2 => ?_)
      have hcl : ∀ x, x ∈ q → b x = β → N x ∈ q ∧ b (N x) = β := by
        intro x hx hbx
        rcases hE x hx (N x) (hN.2 x (hall x hx)) with ho | ⟨h1, h2⟩
        · exact absurd ⟨x, fun _ _ => ⟨hx, hbx, ho⟩⟩ hc2
        · exact ⟨h1, by rw [← h2, hbx]⟩
      have hCd : (q.filter (fun x => decide (b x = β))).Nodup := hq.sublist (List.filter_sublist)
      have hCm : ∀ x, x ∈ q.filter (fun x => decide (b x = β)) ↔ x ∈ q ∧ b x = β := by
        intro x; rw [List.mem_filter]; simp
      generalize hCe : q.filter (fun x => decide (b x = β)) = C at hCd hCm
      have hβC : β ∈ C := (hCm β).mpr hβ
      have p1 := mc_par N C.length C (Nat.le_refl _) hCd (fun x hx => by
        obtain ⟨h1, h2⟩ := (hCm x).mp hx
        exact ⟨(hCm _).mpr (hcl x h1 h2), hN.1 x, hall x h1⟩)
      have p2 := mc_par m (C.erase β).length (C.erase β) (Nat.le_refl _) (hCd.erase _) (fun x hx => by
        obtain ⟨h1, h2⟩ := (hCd.mem_erase_iff).mp hx
        obtain ⟨h3, h4⟩ := (hCm x).mp h2
        obtain ⟨k1, k2, k3, k4⟩ := hb2 x h3 (by rw [h4]; exact Ne.symm h1)
        exact ⟨(hCd.mem_erase_iff).mpr ⟨by rw [h4] at k3; exact k3, (hCm _).mpr ⟨k1, by rw [k2, h4]⟩⟩, hm.1 x, k4⟩)
      rw [List.length_erase_of_mem hβC] at p2
      have := List.length_pos_of_mem hβC
      omega
    · exact ⟨0, fun h1 h2 => absurd ⟨h1, h2⟩ hβ⟩
  obtain ⟨g, hg⟩ := Classical.axiomOfChoice step
  have hBd : (q.filter (fun x => decide (b x = x))).Nodup := hq.sublist (List.filter_sublist)
  have hBm : ∀ x, x ∈ q.filter (fun x => decide (b x = x)) ↔ x ∈ q ∧ b x = x := by
    intro x; rw [List.mem_filter]; simp
  generalize hBe : q.filter (fun x => decide (b x = x)) = B at hBd hBm
  have hrB : r ∈ B := (hBm r).mpr ⟨hr, hbr⟩
  have hd2 : (B.map (fun β => m (N (g β)))).Nodup := by
    refine mc_map hBd (fun x hx y hy e => ?_)
    have e1 : N (g x) = N (g y) := by rw [← hm.1 (N (g x)), e, hm.1]
    have e2 : g x = g y := by rw [← hN.1 (g x), e1, hN.1]
    obtain ⟨k1, k2⟩ := (hBm x).mp hx
    obtain ⟨k3, k4⟩ := (hBm y).mp hy
    rw [← (hg x k1 k2).2.1, ← (hg y k3 k4).2.1, e2]
  have hs : ∀ z, z ∈ B.map (fun β => m (N (g β))) → z ∈ B.erase r := by
    intro z hz
    obtain ⟨β, hβ, rfl⟩ := List.mem_map.mp hz
    obtain ⟨k1, k2⟩ := (hBm β).mp hβ
    obtain ⟨-, -, ho⟩ := hg β k1 k2
    obtain ⟨o1, o2, o3, o4⟩ := hO _ ho
    refine (hBd.mem_erase_iff).mpr ⟨fun e => ?_, (hBm _).mpr ⟨o2, o3⟩⟩
    have : N (g β) = r := by rw [← hm.1 (N (g β)), e, hmr]
    exact o1 (this ▸ hr)
  have hlen := hd2.length_le_of_subset (l₂ := B.erase r) hs
  rw [List.length_map, List.length_erase_of_mem hrB] at hlen
  have := List.length_pos_of_mem hrB
  omega
end
section
/-! ===== walks along a function ===== -/
def wk_W (f : Nat → Nat) : Nat → List Nat → Nat → Prop
  | x, [], y => x = y
  | x, a :: l, y => x = a ∧ wk_W f (f x) l y
theorem wk_app {f : Nat → Nat} : ∀ {l1 l2 : List Nat} {x y z : Nat}, wk_W f x l1 y → wk_W f y l2 z → wk_W f x (l1 ++ l2) z := by
  intro l1
  induction l1 with
  | nil => intro l2 x y z h1 h2; cases h1; exact h2
  | cons a t ih => intro l2 x y z h1 h2; exact ⟨h1.1, ih h1.2 h2⟩
theorem wk_spl {f : Nat → Nat} : ∀ {l1 l2 : List Nat} {x z : Nat}, wk_W f x (l1 ++ l2) z → ∃ y, wk_W f x l1 y ∧ wk_W f y l2 z := by
  intro l1
  induction l1 with
  | nil => intro l2 x z h; exact ⟨x, rfl, h⟩
  | cons a t ih =>
    intro l2 x z h
    obtain ⟨y, h1, h2⟩ := ih h.2
    exact ⟨y, ⟨h.1, h1⟩, h2⟩
theorem wk_at {f : Nat → Nat} {l1 l2 : List Nat} {a x z : Nat} (h : wk_W f x (l1 ++ a :: l2) z) : wk_W f x l1 a ∧ wk_W f a (a :: l2) z := by
  obtain ⟨y, h1, h2⟩ := wk_spl h
  have e : y = a := h2.1
  subst e
  exact ⟨h1, h2⟩
theorem wk_congr {f g : Nat → Nat} : ∀ {l : List Nat} {x y : Nat}, wk_W f x l y → (∀ a, a ∈ l → g a = f a) → wk_W g x l y := by
  intro l
  induction l with
  | nil => intro x y h _; exact h
  | cons a t ih =>
    intro x y h hg
    refine ⟨h.1, ?_⟩
    rw [h.1, hg a List.mem_cons_self]
    have := h.2
    rw [h.1] at this
    exact ih this (fun c hc => hg c (List.mem_cons_of_mem _ hc))
theorem wk_uniq {f : Nat → Nat} : ∀ {l k : List Nat} {x y : Nat}, wk_W f x l y → wk_W f x k y → y ∉ l → y ∉ k → l = k := by
  intro l
  induction l with
  | nil =>
    intro k x y h1 h2 _ n2
    cases k with
    | nil => rfl
    | cons c s =>
      have e1 : x = y := h1
      exact absurd (by rw [← e1, h2.1]; exact List.mem_cons_self) n2
  | cons a t ih =>
    intro k x y h1 h2 n1 n2
    cases k with
    | nil =>
      have e1 : x = y := h2
      exact absurd (by rw [← e1, h1.1]; exact List.mem_cons_self) n1
    | cons c s =>
      have e : a = c := h1.1.symm.trans h2.1
      rw [e, ih h1.2 h2.2 (fun z => n1 (List.mem_cons_of_mem _ z)) (fun z => n2 (List.mem_cons_of_mem _ z))]
theorem wk_nodup {f : Nat → Nat} : ∀ {l : List Nat} {x y : Nat}, wk_W f x l y → y ∉ l → l.Nodup := by
  intro l
  induction l with
  | nil => intro x y _ _; exact List.nodup_nil
  | cons a t ih =>
    intro x y h n
    have nt : y ∉ t := fun z => n (List.mem_cons_of_mem _ z)
    refine List.nodup_cons.mpr ⟨fun hm => ?_, ih h.2 nt⟩
    obtain ⟨s1, s2, e⟩ := List.append_of_mem hm
    have h' := h
    rw [h.1] at h'
    have h2 := h'.2
    rw [e] at h2
    have h3 := (wk_at h2).2
    have := wk_uniq h' h3 n (fun z => nt (by rw [e]; exact List.mem_append_right _ z))
    have hl := congrArg List.length this
    rw [e] at hl
    simp at hl
    omega
/-- from a vertex on a walk the walk goes on as it does from there -/
theorem wk_tail {f : Nat → Nat} {l k : List Nat} {x y a : Nat} (h : wk_W f x l y) (n : y ∉ l) (ha : a ∈ l) (hk : wk_W f a k y) (nk : y ∉ k) : ∃ l1, l = l1 ++ k := by
  obtain ⟨s1, s2, e⟩ := List.append_of_mem ha
  subst e
  refine ⟨s1, ?_⟩
  rw [wk_uniq (wk_at h).2 hk (fun z => n (List.mem_append_right _ z)) nk]
/-- turning a matching round along a simple walk back to an exposed vertex -/
theorem wk_flip {G : Nat → Nat → Prop} (hG : mg_G G) {p : Nat → Nat} {r : Nat} : ∀ (l : List Nat) (x w : Nat) (μ : Nat → Nat), mg_M G μ → wk_W (fun a => p (μ a)) x l r → μ r = r → μ w = w → G w x → (∀ a, a ∈ l → μ a ≠ a ∧ G (μ a) (p (μ a))) → (∀ a, a ∈ l → ∀ c, c ∈ l → μ a ≠ c) → r ∉ l → w ≠ r → ∃ μ', mg_M G μ' ∧ ∀ z, μ' z ≠ z ↔ (μ z ≠ z ∨ z = w ∨ z = r) := by
  intro l
  induction l with
  | nil =>
    intro x w μ hμ hW hr hw hg _ _ _ hwr
    have e : x = r := hW
    subst e
    exact ⟨mg_add μ w x, mg_addM hG hμ hw hr hg, fun z => mg_add_ne hwr z⟩
  | cons a t ih =>
    intro x w μ hμ hW hr hw hg ha hf hn hwr
    have hnd := List.nodup_cons.mp (wk_nodup hW hn)
    obtain ⟨e, hW2⟩ := hW
    subst e
    obtain ⟨ha1, ha2⟩ := ha x List.mem_cons_self
    obtain ⟨y, hy⟩ : ∃ y, y = μ x := ⟨_, rfl⟩
    rw [← hy] at ha1 ha2
    have hyx : μ y = x := by rw [hy]; exact hμ.1 x
    have hxr : x ≠ r := fun e => hn (e ▸ List.mem_cons_self)
    have hyr : y ≠ r := fun e => by rw [e, hr] at hyx; exact hxr hyx.symm
    have hwx : w ≠ x := fun e => by rw [← e, hw] at hy; exact ha1 (hy.trans e)
    have hwy : w ≠ y := fun e => by rw [← e, hw] at hyx; exact hwx hyx
    have hwt : w ∉ t := fun e => (ha w (List.mem_cons_of_mem _ e)).1 hw
    have hyt : y ∉ t := fun e => hf x List.mem_cons_self y (List.mem_cons_of_mem _ e) hy.symm
    have hd := mg_delM hμ hy.symm
    have hM1 : mg_M G (mg_add (mg_del μ x y) w x) := mg_addM hG hd (by rw [mg_del_o hwx hwy]; exact hw) mg_del_a hg
    have hsame : ∀ c, c ∈ t → mg_add (mg_del μ x y) w x c = μ c := by
      intro c hc
      have c1 : c ≠ x := fun e => hnd.1 (e ▸ hc)
      have c2 : c ≠ y := fun e => hyt (e ▸ hc)
      have c3 : c ≠ w := fun e => hwt (e ▸ hc)
      rw [mg_add_o c3 c1, mg_del_o c1 c2]
    obtain ⟨μ', h1, h2⟩ := ih (p y) y (mg_add (mg_del μ x y) w x) hM1 (wk_congr (show wk_W (fun a => p (μ a)) (p y) t r by rw [hy]; exact hW2) (fun c hc => by show p _ = p _; rw [hsame c hc]))
      (by rw [mg_add_o (Ne.symm hwr) (Ne.symm hxr), mg_del_o (Ne.symm hxr) (Ne.symm hyr)]; exact hr)
      (by rw [mg_add_o (Ne.symm hwy) ha1, mg_del_b])
      ha2
      (fun c hc => by rw [hsame c hc]; exact ha c (List.mem_cons_of_mem _ hc))
      (fun c hc d hd => by rw [hsame c hc]; exact hf c (List.mem_cons_of_mem _ hc) d (List.mem_cons_of_mem _ hd))
      (fun e => hn (List.mem_cons_of_mem _ e)) hyr
    refine ⟨μ', h1, fun z => ?_⟩
    rw [h2 z, mg_add_ne hwx, mg_del_ne]
    have k1 : μ x ≠ x := by rw [← hy]; exact ha1
    have k2 : μ y ≠ y := by rw [hyx]; exact Ne.symm ha1
    grind
end
section
/-! ===== the search's invariant: queue q (the even ones), parents p (10: none), bases b ===== -/
theorem sv_idx {q : List Nat} {x y : Nat} (hx : x ∈ q) (hy : y ∈ q) (e : q.idxOf x = q.idxOf y) : x = y := by
  have h1 : q[q.idxOf x]? = some x := by rw [List.getElem?_eq_getElem (List.idxOf_lt_length_of_mem hx), List.getElem_idxOf]
  have h2 : q[q.idxOf y]? = some y := by rw [List.getElem?_eq_getElem (List.idxOf_lt_length_of_mem hy), List.getElem_idxOf]
  rw [e, h2] at h1
  exact (Option.some.inj h1).symm
theorem sv_ia {q n : List Nat} {x : Nat} (hx : x ∈ q) : (q ++ n).idxOf x = q.idxOf x := by rw [List.idxOf_append, if_pos hx]
theorem sv_ib {q n : List Nat} {x : Nat} (hx : x ∉ q) : q.length ≤ (q ++ n).idxOf x := by rw [List.idxOf_append, if_neg hx]; omega
theorem sv_il {q : List Nat} {x : Nat} (hx : x ∈ q) : q.idxOf x < q.length := List.idxOf_lt_length_of_mem hx
/-- the walk from x to its base within their kin -/
def sv_sg (m : Nat → Nat) (q : List Nat) (p b : Nat → Nat) (x : Nat) (l : List Nat) : Prop := wk_W (fun a => p (m a)) x l (b x) ∧ b x ∉ l ∧ (∀ a, a ∈ l → a ∈ q ∧ b a = b x) ∧ (∀ a, a ∈ l → ∀ c, c ∈ l → m a ≠ c)
def sv_A (G : Nat → Nat → Prop) (m : Nat → Nat) (r : Nat) (q : List Nat) (p b : Nat → Nat) : Prop :=
  q.Nodup ∧ r ∈ q ∧ q.idxOf r = 0 ∧ (∀ x, x ∈ q → x < 10) ∧ (∀ x, x ∈ q → x ≠ r → m x ≠ x) ∧
  (∀ x, x ∈ q → b x ∈ q ∧ b (b x) = b x ∧ q.idxOf (b x) ≤ q.idxOf x) ∧
  (∀ x, x ∉ q → b x = x) ∧
  (∀ x, x ∈ q → b x ≠ x → m x ∈ q ∧ b (m x) = b x) ∧
  (∀ x, x ∉ q → p x < 10 → p x ∈ q ∧ m x ∈ q ∧ b (m x) = m x ∧ q.idxOf (p x) < q.idxOf (m x)) ∧
  (∀ x, x ∈ q → x ≠ r → b x = x → m x ∉ q ∧ p (m x) < 10) ∧
  (∀ x, x ∈ q → (p x < 10 ↔ b x ≠ x)) ∧
  (∀ x, p x < 10 → G x (p x)) ∧
  (∀ x, x ∈ q → ∃ l, sv_sg m q p b x l)
/-- what has been looked at: from the i-th of the queue the vertices below w, from those before it all -/
def sv_sc (q : List Nat) (i w x y : Nat) : Prop := q.idxOf x < i ∨ (q.idxOf x = i ∧ y < w)
def sv_S (G : Nat → Nat → Prop) (q : List Nat) (p b : Nat → Nat) (i w : Nat) : Prop :=
  ∀ x, x ∈ q → ∀ y, G x y → sv_sc q i w x y → (y ∉ q ∧ p y < 10) ∨ (y ∈ q ∧ (b x = b y ∨ ¬ sv_sc q i w y x))
section
variable {G : Nat → Nat → Prop} {m : Nat → Nat} {r : Nat} {q : List Nat} {p b : Nat → Nat}
theorem sv_br (A : sv_A G m r q p b) : b r = r := by
  obtain ⟨a1, a2, a3, a4, a5, a6, a7, a8, a9, a10, a11, a12, a13⟩ := A
  obtain ⟨h1, h2, h3⟩ := a6 r a2
  exact sv_idx h1 a2 (by omega)
/-- a covered even vertex that isn't a base has its mate among its kin, not the base -/
theorem sv_mb (hm : mg_M G m) (hr : m r = r) (A : sv_A G m r q p b) {x : Nat} (hx : x ∈ q) (hb : b x ≠ x) : m x ∈ q ∧ b (m x) = b x ∧ m x ≠ b x ∧ m x ≠ x := by
  have hbr := sv_br A
  obtain ⟨a1, a2, a3, a4, a5, a6, a7, a8, a9, a10, a11, a12, a13⟩ := A
  obtain ⟨h1, h2⟩ := a8 x hx hb
  have hxr : x ≠ r := fun e => hb (by rw [e]; exact hbr)
  refine ⟨h1, h2, fun e => ?_, a5 x hx hxr⟩
  have hmr : m x ≠ r := fun e2 => hxr (by rw [← hm.1 x, e2, hr])
  have := (a10 (m x) h1 hmr (by rw [h2, e])).1
  rw [hm.1] at this
  exact this hx
/-- the mate of an even vertex that is even too is of its kin -/
theorem sv_mm (hm : mg_M G m) (hr : m r = r) (A : sv_A G m r q p b) {x : Nat} (hx : x ∈ q) (hmx : m x ∈ q) : b (m x) = b x ∧ (x ≠ r → b x ≠ x) := by
  have hbr := sv_br A
  obtain ⟨a1, a2, a3, a4, a5, a6, a7, a8, a9, a10, a11, a12, a13⟩ := A
  by_cases e : x = r
  · exact ⟨by rw [e, hr], fun h => absurd e h⟩
  · by_cases e2 : b x = x
    · exact absurd hmx (a10 x hx e e2).1
    · exact ⟨(a8 x hx e2).2, fun _ => e2⟩
theorem sv_init (hm : mg_M G m) (hr : r < 10) (hmr : m r = r) : sv_A G m r [r] (fun _ => 10) (fun x => x) := by
  refine ⟨?_, ?_, ?_, ?_, ?_, ?_, ?_, ?_, ?_, ?_, ?_, ?_, ?_⟩
  · simp
  · simp
  · simp
  · intro x hx; simp at hx; omega
  · intro x hx hn; simp at hx; exact absurd hx hn
  · intro x hx; exact ⟨hx, rfl, Nat.le_refl _⟩
  · intro x _; rfl
  · intro x _ h; exact absurd rfl h
  · intro x _ h; exact absurd (show (10 : Nat) < 10 from h) (by decide)
  · intro x hx hn; simp at hx; exact absurd hx hn
  · intro x _; simp
  · intro x h; exact absurd (show (10 : Nat) < 10 from h) (by decide)
  · intro x _
    refine ⟨[], rfl, ?_, ?_, ?_⟩
    · simp
    · intro a ha; simp at ha
    · intro a ha; simp at ha
theorem sv_even (hm : mg_M G m) (hmr : m r = r) (A : sv_A G m r q p b) (w : Nat) : w ∈ q ↔ (w = r ∨ (m w ≠ w ∧ p (m w) < 10)) := by
  have hbr := sv_br A
  have hmb := fun x => sv_mb hm hmr A (x := x)
  obtain ⟨a1, a2, a3, a4, a5, a6, a7, a8, a9, a10, a11, a12, a13⟩ := A
  constructor
  · intro hw
    by_cases e : w = r
    · exact Or.inl e
    · refine Or.inr ⟨a5 w hw e, ?_⟩
      by_cases e2 : b w = w
      · exact (a10 w hw e e2).2
      · obtain ⟨h1, h2, h3, h4⟩ := hmb w hw e2
        exact (a11 _ h1).mpr (by rw [h2]; exact Ne.symm h3)
  · rintro (e | ⟨h1, h2⟩)
    · exact e ▸ a2
    · by_cases e : m w ∈ q
      · have := (a8 _ e ((a11 _ e).mp h2)).1
        rw [hm.1] at this
        exact this
      · have := (a9 _ e h2).2.1
        rw [hm.1] at this
        exact this
/-- the outcome of a new edge to a covered vertex outside -/
theorem sv_grow (hG : mg_G G) (hm : mg_M G m) (hmr : m r = r) (A : sv_A G m r q p b) {v w : Nat} (hv : v ∈ q) (hg : G v w) (hw : w ∉ q) (hpw : ¬ p w < 10) (hmw : m w ≠ w) :
    m w ∉ q ∧ m w < 10 ∧ sv_A G m r (q ++ [m w]) (fun x => if x = w then v else p x) b := by
  have hmb := fun x => sv_mb hm hmr A (x := x)
  obtain ⟨a1, a2, a3, a4, a5, a6, a7, a8, a9, a10, a11, a12, a13⟩ := A
  have hv10 := a4 v hv
  have hmm : m (m w) = w := hm.1 w
  have hmwq : m w ∉ q := by
    intro h
    by_cases e : m w = r
    · rw [e, hmr] at hmm
      exact hw (hmm ▸ a2)
    · by_cases e2 : b (m w) = m w
      · have := (a10 _ h e e2).2
        rw [hmm] at this
        exact hpw this
      · have := (a8 _ h e2).1
        rw [hmm] at this
        exact hw this
  have hgm := hG _ _ (hm.2 w hmw)
  refine ⟨hmwq, hgm.2.2.1, ?_, ?_, ?_, ?_, ?_, ?_, ?_, ?_, ?_, ?_, ?_, ?_, ?_⟩
  · rw [List.nodup_append]
    refine ⟨a1, by simp, fun x hx y hy => ?_⟩
    simp at hy
    intro e
    exact hmwq (by rw [← hy, ← e]; exact hx)
  · exact List.mem_append_left _ a2
  · rw [sv_ia a2]; exact a3
  · intro x hx
    rcases List.mem_append.mp hx with h | h
    · exact a4 x h
    · simp at h; rw [h]; exact hgm.2.2.1
  · intro x hx hn
    rcases List.mem_append.mp hx with h | h
    · exact a5 x h hn
    · simp at h; rw [h, hmm]; exact Ne.symm hmw
  · intro x hx
    by_cases h : x ∈ q
    · obtain ⟨h1, h2, h3⟩ := a6 x h
      refine ⟨List.mem_append_left _ h1, h2, ?_⟩
      rw [sv_ia h1, sv_ia h]; exact h3
    · rw [a7 x h]
      exact ⟨hx, a7 x h, Nat.le_refl _⟩
  · intro x hx
    exact a7 x (fun h => hx (List.mem_append_left _ h))
  · intro x hx hb
    by_cases h : x ∈ q
    · obtain ⟨h1, h2⟩ := a8 x h hb
      exact ⟨List.mem_append_left _ h1, h2⟩
    · exact absurd (a7 x h) hb
  · intro x hx hp
    have hxq : x ∉ q := fun h => hx (List.mem_append_left _ h)
    by_cases e : x = w
    · subst e
      simp only [↓reduceIte]
      refine ⟨List.mem_append_left _ hv, by simp, a7 _ hmwq, ?_⟩
      have := sv_ib (n := [m x]) hmwq
      have h2 := sv_ia (n := [m x]) hv
      have h3 := sv_il hv
      omega
    · simp only [if_neg e] at hp ⊢
      obtain ⟨h1, h2, h3, h4⟩ := a9 x hxq hp
      refine ⟨List.mem_append_left _ h1, List.mem_append_left _ h2, h3, ?_⟩
      rw [sv_ia h1, sv_ia h2]; exact h4
  · intro x hx hn hb
    by_cases h : x ∈ q
    · obtain ⟨h1, h2⟩ := a10 x h hn hb
      refine ⟨fun h3 => ?_, ?_⟩
      · rcases List.mem_append.mp h3 with h4 | h4
        · exact h1 h4
        · simp at h4
          have : x = w := by rw [← hm.1 x, h4, hmm]
          exact hw (this ▸ h)
      · show (if m x = w then v else p (m x)) < 10
        split
        · exact hv10
        · exact h2
    · have hx2 : x = m w := by
        rcases List.mem_append.mp hx with h4 | h4
        · exact absurd h4 h
        · simpa using h4
      rw [hx2, hmm]
      refine ⟨fun h3 => ?_, ?_⟩
      · rcases List.mem_append.mp h3 with h4 | h4
        · exact hw h4
        · simp at h4
          exact hmw h4.symm
      · show (if w = w then v else p w) < 10
        rw [if_pos rfl]; exact hv10
  · intro x hx
    by_cases h : x ∈ q
    · have : x ≠ w := fun e => hw (e ▸ h)
      simp only [if_neg this]
      exact a11 x h
    · have hx2 : x = m w := by
        rcases List.mem_append.mp hx with h4 | h4
        · exact absurd h4 h
        · simpa using h4
      have : x ≠ w := fun e => hmw (by rw [← hx2]; exact e)
      simp only [if_neg this]
      rw [hx2]
      constructor
      · intro h5
        have := (a9 _ hmwq h5).2.1
        rw [hmm] at this
        exact absurd this hw
      · intro h5
        exact absurd (a7 _ hmwq) h5
  · intro x hp
    by_cases e : x = w
    · subst e
      simp only [↓reduceIte]
      exact (hG _ _ hg).1
    · simp only [if_neg e] at hp ⊢
      exact a12 x hp
  · intro x hx
    by_cases h : x ∈ q
    · obtain ⟨l, h1, h2, h3, h4⟩ := a13 x h
      refine ⟨l, wk_congr h1 (fun a ha => ?_), h2, fun a ha => ⟨List.mem_append_left _ (h3 a ha).1, (h3 a ha).2⟩, h4⟩
      have hab : b a ≠ a := by
        rw [(h3 a ha).2]
        intro e
        exact h2 (by rw [e]; exact ha)
      have : m a ≠ w := fun e => hw (e ▸ (a8 a (h3 a ha).1 hab).1)
      show (if m a = w then v else p (m a)) = p (m a)
      rw [if_neg this]
    · refine ⟨[], ?_, ?_, ?_, ?_⟩
      · exact (a7 x h).symm
      · simp
      · intro a ha; simp at ha
      · intro a ha; simp at ha
/-- the chain of bases upwards -/
theorem sv_up (hm : mg_M G m) (A : sv_A G m r q p b) {β : Nat} (h : β ∈ q) (hb : b β = β) (hr : β ≠ r) : m β ∉ q ∧ p (m β) ∈ q ∧ b (p (m β)) ∈ q ∧ b (b (p (m β))) = b (p (m β)) ∧ q.idxOf (b (p (m β))) < q.idxOf β := by
  obtain ⟨a1, a2, a3, a4, a5, a6, a7, a8, a9, a10, a11, a12, a13⟩ := A
  obtain ⟨h1, h2⟩ := a10 β h hr hb
  obtain ⟨h3, h4, h5, h6⟩ := a9 _ h1 h2
  obtain ⟨h7, h8, h9⟩ := a6 _ h3
  rw [hm.1] at h6
  exact ⟨h1, h3, h7, h8, by omega⟩
/-- facts along a chain that doesn't hold the root -/
theorem sv_ch (hm : mg_M G m) (A : sv_A G m r q p b) : ∀ {L : List Nat} {β γ : Nat}, β ∈ q → b β = β → wk_W (fun a => b (p (m a))) β L γ → (∀ c, c ∈ L → c ≠ r) → γ ∈ q ∧ b γ = γ ∧ q.idxOf γ ≤ q.idxOf β ∧ (∀ c, c ∈ L → c ∈ q ∧ b c = c ∧ m c ∉ q ∧ q.idxOf γ < q.idxOf c ∧ q.idxOf c ≤ q.idxOf β) := by
  intro L
  induction L with
  | nil =>
    intro β γ h hb hW _
    have e : β = γ := hW
    subst e
    exact ⟨h, hb, Nat.le_refl _, fun c hc => by simp at hc⟩
  | cons a t ih =>
    intro β γ h hb hW hn
    obtain ⟨e, hW2⟩ := hW
    subst e
    obtain ⟨u1, u2, u3, u4, u5⟩ := sv_up hm A h hb (hn β List.mem_cons_self)
    obtain ⟨i1, i2, i3, i4⟩ := ih u3 u4 hW2 (fun c hc => hn c (List.mem_cons_of_mem _ hc))
    refine ⟨i1, i2, by omega, fun c hc => ?_⟩
    rcases List.mem_cons.mp hc with e | hc
    · subst e
      exact ⟨h, hb, u1, by omega, Nat.le_refl _⟩
    · obtain ⟨j1, j2, j3, j4, j5⟩ := i4 c hc
      exact ⟨j1, j2, j3, j4, by omega⟩
theorem sv_chr (hm : mg_M G m) (A : sv_A G m r q p b) : ∀ (n β : Nat), β ∈ q → b β = β → q.idxOf β ≤ n → ∃ L, wk_W (fun a => b (p (m a))) β L r ∧ (∀ c, c ∈ L → c ≠ r) ∧ L.length ≤ n := by
  intro n
  induction n with
  | zero =>
    intro β h hb hn
    obtain ⟨a1, a2, a3, -⟩ := A
    have : β = r := sv_idx h a2 (by omega)
    exact ⟨[], this, fun c hc => by simp at hc, Nat.le_refl _⟩
  | succ n ih =>
    intro β h hb hn
    by_cases e : β = r
    · exact ⟨[], e, fun c hc => by simp at hc, Nat.zero_le _⟩
    · obtain ⟨u1, u2, u3, u4, u5⟩ := sv_up hm A h hb e
      obtain ⟨L, h1, h2, h3⟩ := ih _ u3 u4 (by omega)
      refine ⟨β :: L, ⟨rfl, h1⟩, fun c hc => ?_, by simp; exact h3⟩
      rcases List.mem_cons.mp hc with e2 | hc
      · rw [e2]; exact e
      · exact h2 c hc
/-- the walk from x through the classes of a chain -/
def sv_go (m : Nat → Nat) (q : List Nat) (p b : Nat → Nat) (ρ x : Nat) (L l : List Nat) (e : Nat) (s : List Nat) : Prop :=
  wk_W (fun a => p (m a)) x l e ∧ wk_W (fun a => p (m a)) e s ρ ∧ e ∈ q ∧ b e = ρ ∧ (∀ a, a ∈ l → a ∈ q ∧ b a ∈ L) ∧ (∀ c, c ∈ L → c ∈ l) ∧ (∀ a, a ∈ s → a ∈ q ∧ b a = ρ) ∧ ρ ∉ l ++ s ∧ (∀ a, a ∈ l ++ s → ∀ c, c ∈ l ++ s → m a ≠ c)
theorem sv_goE (hm : mg_M G m) (hmr : m r = r) (A : sv_A G m r q p b) {ρ : Nat} : ∀ {L : List Nat} {x : Nat}, x ∈ q → wk_W (fun a => b (p (m a))) (b x) L ρ → (∀ c, c ∈ L → c ≠ r) → ∃ l e s, sv_go m q p b ρ x L l e s := by
  have hmb := fun x => sv_mb hm hmr A (x := x)
  have hch := fun L β γ => sv_ch hm A (L := L) (β := β) (γ := γ)
  have hup := fun β => sv_up hm A (β := β)
  have hmm := fun x => sv_mm hm hmr A (x := x)
  obtain ⟨a1, a2, a3, a4, a5, a6, a7, a8, a9, a10, a11, a12, a13⟩ := A
  intro L
  induction L with
  | nil =>
    intro x hx hW _
    have e : b x = ρ := hW
    obtain ⟨s, s1, s2, s3, s4⟩ := a13 x hx
    rw [e] at s1 s2 s3
    exact ⟨[], x, s, rfl, s1, hx, e, fun a ha => by simp at ha, fun c hc => by simp at hc, s3, s2, s4⟩
  | cons β t ih =>
    intro x hx hW hn
    obtain ⟨b1, b2, b3⟩ := a6 x hx
    obtain ⟨c1, c2, c3, c4⟩ := hch _ _ _ b1 b2 hW hn
    obtain ⟨e, hW2⟩ := hW
    rw [e] at hW2 b1 b2 b3
    have hβr := hn β List.mem_cons_self
    obtain ⟨u1, u2, u3, u4, u5⟩ := hup β b1 b2 hβr
    obtain ⟨d1, d2, d3, d4⟩ := hch _ _ _ u3 u4 hW2 (fun c hc => hn c (List.mem_cons_of_mem _ hc))
    obtain ⟨l, z, s, g1, g2, g3, g4, g5, g6, g7, g8, g9⟩ := ih u2 hW2 (fun c hc => hn c (List.mem_cons_of_mem _ hc))
    obtain ⟨k, s1, s2, s3, s4⟩ := a13 x hx
    rw [e] at s1 s2 s3
    have hβt : β ∉ t := fun h => by have := (d4 β h).2.2.2.2; omega
    have hβρ : β ≠ ρ := fun h => by rw [← h] at d3; omega
    -- what follows the base lies in other classes
    have hrest : ∀ c, c ∈ l ++ s → c ∈ q ∧ b c ≠ β := by
      intro c hc
      rcases List.mem_append.mp hc with h | h
      · obtain ⟨i1, i2⟩ := g5 c h
        exact ⟨i1, fun e => hβt (e ▸ i2)⟩
      · obtain ⟨i1, i2⟩ := g7 c h
        exact ⟨i1, fun e => hβρ (by rw [← i2, e])⟩
    have hk : ∀ a, a ∈ k → m a ∈ q ∧ b (m a) = β ∧ m a ≠ β := by
      intro a ha
      have hab : b a ≠ a := by
        rw [(s3 a ha).2]
        intro e2
        exact s2 (by rw [e2]; exact ha)
      obtain ⟨i1, i2, i3, i4⟩ := hmb a (s3 a ha).1 hab
      rw [(s3 a ha).2] at i2 i3
      exact ⟨i1, i2, i3⟩
    have hfirst : ∀ a, (a ∈ k ∨ a = β) → ∀ c, c ∈ l ++ s → m a ≠ c := by
      intro a ha c hc h
      obtain ⟨i1, i2⟩ := hrest c hc
      rcases ha with ha | ha
      · rw [← h, (hk a ha).2.1] at i2; exact i2 rfl
      · rw [ha] at h; exact u1 (h ▸ i1)
    refine ⟨k ++ β :: l, z, s, wk_app s1 ⟨rfl, g1⟩, g2, g3, g4, ?_, ?_, g7, ?_, ?_⟩
    · intro a ha
      rcases List.mem_append.mp ha with h | h
      · exact ⟨(s3 a h).1, by rw [(s3 a h).2]; exact List.mem_cons_self⟩
      · rcases List.mem_cons.mp h with h | h
        · rw [h, b2]; exact ⟨b1, List.mem_cons_self⟩
        · exact ⟨(g5 a h).1, List.mem_cons_of_mem _ (g5 a h).2⟩
    · intro c hc
      rcases List.mem_cons.mp hc with h | h
      · rw [h]; exact List.mem_append_right _ List.mem_cons_self
      · exact List.mem_append_right _ (List.mem_cons_of_mem _ (g6 c h))
    · intro h
      have : ρ ∈ k ∨ ρ = β ∨ ρ ∈ l ++ s := by
        simp only [List.mem_append, List.mem_cons] at h ⊢
        grind
      rcases this with h | h | h
      · have := (s3 ρ h).2
        rw [c2] at this
        exact hβρ this.symm
      · exact hβρ h.symm
      · exact g8 h
    · intro a ha c hc h
      have ha2 : (a ∈ k ∨ a = β) ∨ a ∈ l ++ s := by
        simp only [List.mem_append, List.mem_cons] at ha ⊢
        grind
      have hc2 : (c ∈ k ∨ c = β) ∨ c ∈ l ++ s := by
        simp only [List.mem_append, List.mem_cons] at hc ⊢
        grind
      rcases ha2 with ha2 | ha2
      · rcases hc2 with hc2 | hc2
        · rcases ha2 with ha2 | ha2
          · rcases hc2 with hc2 | hc2
            · exact s4 a ha2 c hc2 h
            · exact (hk a ha2).2.2 (by rw [h, hc2])
          · rw [ha2] at h
            rcases hc2 with hc2 | hc2
            · exact u1 (by rw [h]; exact (s3 c hc2).1)
            · exact u1 (by rw [h, hc2]; exact b1)
        · exact hfirst a ha2 c hc2 h
      · rcases hc2 with hc2 | hc2
        · exact hfirst c hc2 a ha2 (by rw [← h]; exact hm.1 a)
        · exact g9 a ha2 c hc2 h
end
end
section
/-! ===== shrinking an odd circle ===== -/
/-- where a walk goes on that meets an overwritten vertex: to the one before it on the side (k: those before it, the nearest first), or over the new edge -/
def sk_tp (m : Nat → Nat) (w : Nat) : List Nat → Nat
  | [] => w
  | a :: _ => m a
def sk_ov (m : Nat → Nat) (p : Nat → Nat) : Nat → List Nat → (Nat → Nat)
  | _, [] => p
  | c, a :: l => sk_ov m (fun x => if x = a then c else p x) (m a) l
theorem sk_ov_n {m : Nat → Nat} : ∀ {l : List Nat} {p : Nat → Nat} {c x : Nat}, x ∉ l → sk_ov m p c l x = p x := by
  intro l
  induction l with
  | nil => intro p c x _; rfl
  | cons a t ih =>
    intro p c x h
    show sk_ov m (fun x => if x = a then c else p x) (m a) t x = p x
    rw [ih (fun z => h (List.mem_cons_of_mem _ z))]
    exact if_neg (fun (e : x = a) => h (e ▸ List.mem_cons_self))
theorem sk_tp_app {m : Nat → Nat} {c a : Nat} : ∀ (k : List Nat), sk_tp m c (k ++ [a]) = sk_tp m (m a) k := by
  intro k
  cases k with
  | nil => rfl
  | cons x t => rfl
theorem sk_ov_a {m : Nat → Nat} : ∀ {l1 l2 : List Nat} {p : Nat → Nat} {c a : Nat}, (l1 ++ a :: l2).Nodup → sk_ov m p c (l1 ++ a :: l2) a = sk_tp m c l1.reverse := by
  intro l1
  induction l1 with
  | nil =>
    intro l2 p c a h
    show sk_ov m (fun x => if x = a then c else p x) (m a) l2 a = c
    rw [sk_ov_n (List.nodup_cons.mp h).1]
    exact if_pos rfl
  | cons x t ih =>
    intro l2 p c a h
    show sk_ov m (fun y => if y = x then c else p y) (m x) (t ++ a :: l2) a = _
    rw [ih (List.nodup_cons.mp h).2, List.reverse_cons, sk_tp_app]
theorem sk_first {P : Nat → Prop} : ∀ {l : List Nat}, (∃ a, a ∈ l ∧ P a) → ∃ l1 a l2, l = l1 ++ a :: l2 ∧ P a ∧ ∀ c, c ∈ l1 → ¬ P c := by
  intro l
  induction l with
  | nil => rintro ⟨a, ha, _⟩; simp at ha
  | cons x t ih =>
    rintro ⟨a, ha, hp⟩
    by_cases hx : P x
    · exact ⟨[], x, t, rfl, hx, fun c hc => by simp at hc⟩
    · have : a ∈ t := by
        rcases List.mem_cons.mp ha with e | e
        · exact absurd (e ▸ hp) hx
        · exact e
      obtain ⟨l1, c, l2, e, h1, h2⟩ := ih ⟨a, this, hp⟩
      refine ⟨x :: l1, c, l2, by rw [e]; rfl, h1, fun d hd => ?_⟩
      rcases List.mem_cons.mp hd with e | e
      · rw [e]; exact hx
      · exact h2 d e
section
variable {G : Nat → Nat → Prop} {m : Nat → Nat} {r : Nat} {q : List Nat} {p b p' : Nat → Nat} {ρ v w : Nat} {Lv Lw lv sv Z : List Nat} {ev : Nat}
/-- where a new walk stays -/
def sk_at (m : Nat → Nat) (q : List Nat) (b : Nat → Nat) (ρ : Nat) (Lv Lw : List Nat) (a : Nat) : Prop := (a ∈ q ∧ (b a ∈ Lv ∨ b a ∈ Lw ∨ b a = ρ)) ∨ m a ∈ Lv
def sk_new (m : Nat → Nat) (q : List Nat) (b p' : Nat → Nat) (ρ : Nat) (Lv Lw : List Nat) (x : Nat) (N : List Nat) : Prop :=
  wk_W (fun a => p' (m a)) x N ρ ∧ ρ ∉ N ∧ (∀ a, a ∈ N → sk_at m q b ρ Lv Lw a) ∧ (∀ a, a ∈ N → ∀ c, c ∈ N → m a ≠ c)
theorem sk_back (hm : mg_M G m) (hmr : m r = r) (A : sv_A G m r q p b) (hLv : ∀ c, c ∈ Lv → c ∈ q ∧ b c = c ∧ c ≠ r) (hd : ∀ c, c ∈ Lv → c ∉ Lw) (hρ : ρ ∈ q ∧ b ρ = ρ ∧ ρ ∉ Lv ∧ ρ ∉ Lw)
    (hgo : sv_go m q p b ρ v Lv lv ev sv) (hZ : wk_W (fun a => p' (m a)) w Z ρ) (hZq : ∀ z, z ∈ Z → z ∈ q ∧ (b z ∈ Lw ∨ b z = ρ)) (hZm : ∀ a, a ∈ Z → ∀ c, c ∈ Z → m a ≠ c) (hZρ : ρ ∉ Z)
    (P2 : ∀ l1 a l2, lv = l1 ++ a :: l2 → p' a = sk_tp m w l1.reverse) : ∀ (k l2 : List Nat), lv = k.reverse ++ l2 → sk_new m q b p' ρ Lv Lw (sk_tp m w k) (k.map m ++ Z) := by
  have hmb := fun x => sv_mb hm hmr A (x := x)
  obtain ⟨a1, a2, a3, a4, a5, a6, a7, a8, a9, a10, a11, a12, a13⟩ := A
  obtain ⟨g1, g2, g3, g4, g5, g6, g7, g8, g9⟩ := hgo
  intro k
  have hk : ∀ l2, lv = k.reverse ++ l2 → ∀ a, a ∈ k → a ∈ lv := by
    intro l2 e a ha
    rw [e]
    exact List.mem_append_left _ (List.mem_reverse.mpr ha)
  intro l2 e
  have hkl := hk l2 e
  refine ⟨?_, ?_, ?_, ?_⟩
  · clear hk hkl
    induction k generalizing l2 with
    | nil => exact hZ
    | cons a t ih =>
      have e2 : lv = t.reverse ++ a :: l2 := by rw [e]; simp
      refine ⟨rfl, ?_⟩
      show wk_W (fun a => p' (m a)) (p' (m (m a))) (t.map m ++ Z) ρ
      rw [hm.1, P2 t.reverse a l2 e2, List.reverse_reverse]
      exact ih (a :: l2) e2
  · intro h
    rcases List.mem_append.mp h with h | h
    · obtain ⟨a, ha, e3⟩ := List.mem_map.mp h
      obtain ⟨i1, i2⟩ := g5 a (hkl a ha)
      have e4 : m ρ = a := by rw [← e3]; exact hm.1 a
      by_cases er : ρ = r
      · rw [er, hmr] at e4
        have hbr : b r = r := by rw [← er]; exact hρ.2.1
        rw [← e4, hbr] at i2
        exact (hLv r i2).2.2 rfl
      · exact (a10 ρ hρ.1 er hρ.2.1).1 (by rw [e4]; exact i1)
    · exact hZρ h
  · intro c hc
    rcases List.mem_append.mp hc with h | h
    · obtain ⟨a, ha, e3⟩ := List.mem_map.mp h
      obtain ⟨i1, i2⟩ := g5 a (hkl a ha)
      by_cases hb : b a = a
      · refine Or.inr ?_
        rw [← e3, hm.1, ← hb]; exact i2
      · obtain ⟨j1, j2, j3, j4⟩ := hmb a i1 hb
        refine Or.inl ?_
        rw [← e3, j2]
        exact ⟨j1, Or.inl i2⟩
    · obtain ⟨i1, i2⟩ := hZq c h
      exact Or.inl ⟨i1, Or.inr i2⟩
  · have hcross : ∀ a, a ∈ k → a ∉ Z := by
      intro a ha hz
      obtain ⟨i1, i2⟩ := g5 a (hkl a ha)
      obtain ⟨j1, j2⟩ := hZq a hz
      rcases j2 with j2 | j2
      · exact hd _ i2 j2
      · exact hρ.2.2.1 (j2 ▸ i2)
    intro x hx c hc h
    rcases List.mem_append.mp hx with hx | hx
    · obtain ⟨a, ha, rfl⟩ := List.mem_map.mp hx
      rw [hm.1] at h
      rcases List.mem_append.mp hc with hc | hc
      · obtain ⟨d, hd2, rfl⟩ := List.mem_map.mp hc
        exact g9 d (List.mem_append_left _ (hkl d hd2)) a (List.mem_append_left _ (hkl a ha)) h.symm
      · exact hcross a ha (h ▸ hc)
    · rcases List.mem_append.mp hc with hc | hc
      · obtain ⟨d, hd2, rfl⟩ := List.mem_map.mp hc
        have : x = d := by rw [← hm.1 x, h, hm.1]
        exact hcross d hd2 (this ▸ hx)
      · exact hZm x hx c hc h
theorem sk_side (hm : mg_M G m) (hmr : m r = r) (A : sv_A G m r q p b) (hch : wk_W (fun a => b (p (m a))) (b v) Lv ρ) (hLv : ∀ c, c ∈ Lv → c ∈ q ∧ b c = c ∧ c ≠ r) (hLw : ∀ c, c ∈ Lw → c ∈ q ∧ b c = c ∧ c ≠ r) (hd : ∀ c, c ∈ Lv → c ∉ Lw) (hρ : ρ ∈ q ∧ b ρ = ρ ∧ ρ ∉ Lv ∧ ρ ∉ Lw)
    (hgo : sv_go m q p b ρ v Lv lv ev sv) (hZ : wk_W (fun a => p' (m a)) w Z ρ) (hZq : ∀ z, z ∈ Z → z ∈ q ∧ (b z ∈ Lw ∨ b z = ρ)) (hZm : ∀ a, a ∈ Z → ∀ c, c ∈ Z → m a ≠ c) (hZρ : ρ ∉ Z)
    (P1 : ∀ x, x ∉ lv → b x ∉ Lw → p' x = p x)
    (P2 : ∀ l1 a l2, lv = l1 ++ a :: l2 → p' a = sk_tp m w l1.reverse) {x : Nat} (hx : x ∈ q) (hbx : b x ∈ Lv) : ∃ N, sk_new m q b p' ρ Lv Lw x N := by
  have hback := sk_back hm hmr A hLv hd hρ hgo hZ hZq hZm hZρ P2
  have hmb := fun x => sv_mb hm hmr A (x := x)
  have hmm := fun x => sv_mm hm hmr A (x := x)
  have hbr := sv_br A
  obtain ⟨L1, L2, eL⟩ := List.append_of_mem hbx
  have hch2 : wk_W (fun a => b (p (m a))) (b x) (b x :: L2) ρ := by rw [eL] at hch; exact (wk_at hch).2
  have hL2 : ∀ c, c ∈ b x :: L2 → c ∈ Lv := fun c hc => by rw [eL]; exact List.mem_append_right _ hc
  obtain ⟨l, e, s, y1, y2, y3, y4, y5, y6, y7, y8, y9⟩ := sv_goE hm hmr A hx hch2 (fun c hc => (hLv c (hL2 c hc)).2.2)
  have A' := A
  obtain ⟨a1, a2, a3, a4, a5, a6, a7, a8, a9, a10, a11, a12, a13⟩ := A'
  obtain ⟨g1, g2, g3, g4, g5, g6, g7, g8, g9⟩ := hgo
  have hY : wk_W (fun a => p (m a)) x (l ++ s) ρ := wk_app y1 y2
  have hYq : ∀ a, a ∈ l ++ s → a ∈ q ∧ (b a ∈ Lv ∨ b a = ρ) := by
    intro a ha
    rcases List.mem_append.mp ha with h | h
    · exact ⟨(y5 a h).1, Or.inl (hL2 _ (y5 a h).2)⟩
    · exact ⟨(y7 a h).1, Or.inr (y7 a h).2⟩
  generalize l ++ s = Y at hY y8 y9 hYq
  have hYr : ∀ a, a ∈ Y → a ≠ r := by
    intro a ha e2
    rcases (hYq a ha).2 with h | h
    · rw [e2, hbr] at h; exact (hLv r h).2.2 rfl
    · rw [e2, hbr] at h; exact y8 (by rw [← h, ← e2]; exact ha)
  -- a mate that is even is of the same kin
  have hYm : ∀ a, a ∈ Y → m a ∈ q → b (m a) = b a ∧ b a ≠ a := by
    intro a ha h
    obtain ⟨h1, h2⟩ := hmm a (hYq a ha).1 h
    exact ⟨h1, h2 (hYr a ha)⟩
  have hnLw : ∀ a, a ∈ Y → b (m a) ∉ Lw := by
    intro a ha h
    by_cases hq : m a ∈ q
    · rw [(hYm a ha hq).1] at h
      rcases (hYq a ha).2 with h2 | h2
      · exact hd _ h2 h
      · exact hρ.2.2.2 (h2 ▸ h)
    · rw [a7 _ hq] at h
      exact hq (hLw _ h).1
  have hYat : ∀ a, a ∈ Y → sk_at m q b ρ Lv Lw a := fun a ha => Or.inl ⟨(hYq a ha).1, (hYq a ha).2.elim Or.inl (fun h => Or.inr (Or.inr h))⟩
  by_cases hit : ∃ a, a ∈ Y ∧ m a ∈ lv
  · obtain ⟨Y1, a, Y2, eY, ha, hfirst⟩ := sk_first hit
    obtain ⟨l1, l2, el⟩ := List.append_of_mem ha
    obtain ⟨R1, R2, R3, R4⟩ := hback l1.reverse (m a :: l2) (by rw [List.reverse_reverse]; exact el)
    have hT : ∀ t, (t ∈ Y1 ∨ t = a) → t ∈ Y := by
      intro t ht
      rw [eY]
      rcases ht with h | h
      · exact List.mem_append_left _ h
      · rw [h]; exact List.mem_append_right _ List.mem_cons_self
    have haY : a ∈ Y := hT a (Or.inr rfl)
    have cross1 : ∀ t, (t ∈ Y1 ∨ t = a) → t ∉ l1 := by
      intro t ht h
      obtain ⟨k1, k2, ek⟩ := List.append_of_mem h
      have hX := wk_app g1 g2
      have e1 : lv ++ sv = k1 ++ t :: (k2 ++ m a :: (l2 ++ sv)) := by rw [el, ek]; simp
      rw [e1] at hX g8
      obtain ⟨l', e'⟩ := wk_tail hY y8 (hT t ht) (wk_at hX).2 (fun h2 => g8 (List.mem_append_right _ h2))
      have : m a ∈ Y := by
        rw [e']
        exact List.mem_append_right _ (List.mem_cons_of_mem _ (List.mem_append_right _ List.mem_cons_self))
      exact y9 a haY (m a) this rfl
    have cross2 : ∀ t, (t ∈ Y1 ∨ t = a) → ∀ z, z ∈ Z → m t ≠ z := by
      intro t ht z hz h
      obtain ⟨z1, z2⟩ := hZq z hz
      have htY := hT t ht
      have hmq : m t ∈ q := by rw [h]; exact z1
      obtain ⟨e1, e2⟩ := hYm t htY hmq
      rw [← h] at z2
      rcases z2 with z2 | z2
      · exact hnLw t htY z2
      · have hbt : b t = ρ := by rw [← e1]; exact z2
        rcases ht with ht | ht
        · obtain ⟨T1, T2, eT⟩ := List.append_of_mem ht
          have hY' := hY
          have e3 : Y = T1 ++ t :: (T2 ++ a :: Y2) := by rw [eY, eT]; simp
          rw [e3] at hY'
          obtain ⟨k, k1, k2, k3, k4⟩ := a13 t (hYq t htY).1
          rw [hbt] at k1 k2 k3
          have e4 := wk_uniq k1 (wk_at hY').2 k2 (fun h2 => y8 (by rw [e3]; exact List.mem_append_right _ h2))
          have hba : b a = ρ := (k3 a (by rw [e4]; exact List.mem_cons_of_mem _ (List.mem_append_right _ List.mem_cons_self))).2
          obtain ⟨j1, j2⟩ := g5 _ ha
          rw [(hYm a haY j1).1, hba] at j2
          exact hρ.2.2.1 j2
        · rw [ht] at z2
          have := (g5 _ ha).2
          rw [z2] at this
          exact hρ.2.2.1 this
    have hTR : ∀ t, (t ∈ Y1 ∨ t = a) → ∀ y, y ∈ l1.reverse.map m ++ Z → m t ≠ y := by
      intro t ht y hy h
      rcases List.mem_append.mp hy with hy | hy
      · obtain ⟨d, hd2, rfl⟩ := List.mem_map.mp hy
        have : t = d := by rw [← hm.1 t, h, hm.1]
        exact cross1 t ht (by rw [this]; exact List.mem_reverse.mp hd2)
      · exact cross2 t ht y hy h
    have hsplit : ∀ t, t ∈ Y1 ++ a :: (l1.reverse.map m ++ Z) → (t ∈ Y1 ∨ t = a) ∨ t ∈ l1.reverse.map m ++ Z := by
      intro t ht
      rcases List.mem_append.mp ht with h | h
      · exact Or.inl (Or.inl h)
      · rcases List.mem_cons.mp h with h | h
        · exact Or.inl (Or.inr h)
        · exact Or.inr h
    refine ⟨Y1 ++ a :: (l1.reverse.map m ++ Z), ?_, ?_, ?_, ?_⟩
    · have hY' := hY
      rw [eY] at hY'
      refine wk_app (wk_congr (wk_at hY').1 (fun c hc => ?_)) ⟨rfl, ?_⟩
      · exact P1 (m c) (hfirst c hc) (hnLw c (hT c (Or.inl hc)))
      · show wk_W (fun a => p' (m a)) (p' (m a)) _ ρ
        rw [P2 l1 (m a) l2 el]
        exact R1
    · intro h
      rcases hsplit ρ h with h | h
      · exact y8 (hT ρ h)
      · exact R2 h
    · intro t ht
      rcases hsplit t ht with h | h
      · exact hYat t (hT t h)
      · exact R3 t h
    · intro t ht c hc h
      rcases hsplit t ht with ht | ht
      · rcases hsplit c hc with hc | hc
        · exact y9 t (hT t ht) c (hT c hc) h
        · exact hTR t ht c hc h
      · rcases hsplit c hc with hc | hc
        · exact hTR c hc t ht (by rw [← h]; exact hm.1 t)
        · exact R4 t ht c hc h
  · exact ⟨Y, wk_congr hY (fun a ha => P1 (m a) (fun h => hit ⟨a, ha, h⟩) (hnLw a ha)), y8, hYat, y9⟩
end
end
section
/-! ===== the invariant behind a shrinking ===== -/
theorem wk_last {f : Nat → Nat} {l : List Nat} {x y : Nat} (h : wk_W f x l y) : (l = [] ∧ y = x) ∨ ∃ k a, l = k ++ [a] ∧ y = f a := by
  rcases List.eq_nil_or_concat l with e | ⟨k, a, e⟩
  · subst e; exact Or.inl ⟨rfl, (show x = y from h).symm⟩
  · rw [List.concat_eq_append] at e
    subst e
    obtain ⟨z, h1, h2, h3⟩ := wk_spl h
    exact Or.inr ⟨k, a, rfl, by rw [← h2]; exact (show f z = y from h3).symm⟩
section
variable {G : Nat → Nat → Prop} {m : Nat → Nat} {r : Nat} {q n : List Nat} {p b b' : Nat → Nat} {ρ v w : Nat} {Lv Lw lv sv lw sw : List Nat} {ev ew : Nat}
/-- the data of a shrinking -/
def sk_D (G : Nat → Nat → Prop) (m : Nat → Nat) (r : Nat) (q : List Nat) (p b : Nat → Nat) (ρ v w : Nat) (Lv Lw lv lw sv sw : List Nat) (ev ew : Nat) : Prop :=
  v ∈ q ∧ w ∈ q ∧ G v w ∧ wk_W (fun a => b (p (m a))) (b v) Lv ρ ∧ wk_W (fun a => b (p (m a))) (b w) Lw ρ ∧ (∀ c, c ∈ Lv ++ Lw → c ≠ r) ∧ (∀ c, c ∈ Lv → c ∉ Lw) ∧ sv_go m q p b ρ v Lv lv ev sv ∧ sv_go m q p b ρ w Lw lw ew sw
theorem sk_D_sym (hG : mg_G G) (D : sk_D G m r q p b ρ v w Lv Lw lv lw sv sw ev ew) : sk_D G m r q p b ρ w v Lw Lv lw lv sw sv ew ev := by
  obtain ⟨d1, d2, d3, d4, d5, d6, d7, d8, d9⟩ := D
  refine ⟨d2, d1, (hG _ _ d3).1, d5, d4, fun c hc => d6 c ?_, fun c h1 h2 => d7 c h2 h1, d9, d8⟩
  rcases List.mem_append.mp hc with h | h
  · exact List.mem_append_right _ h
  · exact List.mem_append_left _ h
/-- the bases that go -/
theorem sk_L (hm : mg_M G m) (A : sv_A G m r q p b) (D : sk_D G m r q p b ρ v w Lv Lw lv lw sv sw ev ew) : (ρ ∈ q ∧ b ρ = ρ) ∧ (∀ c, c ∈ Lv ++ Lw → c ∈ q ∧ b c = c ∧ m c ∉ q ∧ q.idxOf ρ < q.idxOf c ∧ c ≠ r) := by
  have hch := fun L β γ => sv_ch hm A (L := L) (β := β) (γ := γ)
  obtain ⟨a1, a2, a3, a4, a5, a6, a7, a8, a9, a10, a11, a12, a13⟩ := A
  obtain ⟨d1, d2, d3, d4, d5, d6, d7, d8, d9⟩ := D
  obtain ⟨e1, e2, e3, e4⟩ := hch _ _ _ (a6 v d1).1 (a6 v d1).2.1 d4 (fun c hc => d6 c (List.mem_append_left _ hc))
  obtain ⟨f1, f2, f3, f4⟩ := hch _ _ _ (a6 w d2).1 (a6 w d2).2.1 d5 (fun c hc => d6 c (List.mem_append_right _ hc))
  refine ⟨⟨e1, e2⟩, fun c hc => ?_⟩
  have hr := d6 c hc
  rcases List.mem_append.mp hc with h | h
  · obtain ⟨i1, i2, i3, i4, i5⟩ := e4 c h
    exact ⟨i1, i2, i3, i4, hr⟩
  · obtain ⟨i1, i2, i3, i4, i5⟩ := f4 c h
    exact ⟨i1, i2, i3, i4, hr⟩
theorem sk_nd (hm : mg_M G m) (A : sv_A G m r q p b) (D : sk_D G m r q p b ρ v w Lv Lw lv lw sv sw ev ew) : lv.Nodup ∧ (∀ x, x ∈ lv → x ∉ lw) := by
  obtain ⟨⟨r1, r2⟩, hL⟩ := sk_L hm A D
  obtain ⟨d1, d2, d3, d4, d5, d6, d7, d8, d9⟩ := D
  obtain ⟨g1, g2, g3, g4, g5, g6, g7, g8, g9⟩ := d8
  obtain ⟨h1, h2, h3, h4, h5, h6, h7, h8, h9⟩ := d9
  refine ⟨wk_nodup g1 (fun h => ?_), fun x hx hx2 => d7 _ (g5 x hx).2 (h5 x hx2).2⟩
  have := (g5 _ h).2
  rw [g4] at this
  have := (hL ρ (List.mem_append_left _ this)).2.2.2.1
  omega
/-- the overwritten parents -/
theorem sk_pv (hm : mg_M G m) (A : sv_A G m r q p b) (D : sk_D G m r q p b ρ v w Lv Lw lv lw sv sw ev ew) {p' : Nat → Nat} (hp : ∀ x, x ∉ lw → p' x = sk_ov m p w lv x) : ∀ l1 a l2, lv = l1 ++ a :: l2 → p' a = sk_tp m w l1.reverse := by
  obtain ⟨n1, n2⟩ := sk_nd hm A D
  intro l1 a l2 e
  rw [hp a (n2 a (by rw [e]; exact List.mem_append_right _ List.mem_cons_self)), e]
  rw [e] at n1
  exact sk_ov_a n1
theorem sk_pe (hm : mg_M G m) (A : sv_A G m r q p b) (D : sk_D G m r q p b ρ v w Lv Lw lv lw sv sw ev ew) {p' : Nat → Nat} (hp : ∀ x, x ∉ lw → p' x = sk_ov m p w lv x) {x : Nat} (hx : x ∈ lv) : (x = v ∧ p' x = w) ∨ ∃ a, a ∈ lv ∧ x = p (m a) ∧ p' x = m a := by
  obtain ⟨l1, l2, e⟩ := List.append_of_mem hx
  have h2 := sk_pv hm A D hp l1 x l2 e
  obtain ⟨d1, d2, d3, d4, d5, d6, d7, d8, d9⟩ := D
  have h3 := d8.1
  rw [e] at h3
  rcases wk_last (wk_at h3).1 with ⟨e1, e2⟩ | ⟨k, a, e1, e2⟩
  · rw [e1] at h2
    exact Or.inl ⟨e2, h2⟩
  · refine Or.inr ⟨a, ?_, e2, ?_⟩
    · rw [e, e1]; simp
    · rw [h2, e1]; simp [sk_tp]
/-- one side's new walks -/
theorem sk_walks (hm : mg_M G m) (hmr : m r = r) (A : sv_A G m r q p b) (D : sk_D G m r q p b ρ v w Lv Lw lv lw sv sw ev ew) {p' : Nat → Nat} (hp : ∀ x, x ∉ lw → p' x = sk_ov m p w lv x) :
    (∀ x, x ∈ q → b x ∈ Lv → ∃ N, sk_new m q b p' ρ Lv Lw x N) ∧ (∀ x, m x ∈ Lv → ∃ N, sk_new m q b p' ρ Lv Lw x N) := by
  have hL := sk_L hm A D
  obtain ⟨n1, n2⟩ := sk_nd hm A D
  have hP2 := sk_pv hm A D hp
  have hmm := fun x => sv_mm hm hmr A (x := x)
  obtain ⟨⟨r1, r2⟩, hL⟩ := hL
  obtain ⟨d1, d2, d3, d4, d5, d6, d7, d8, d9⟩ := D
  have d9' := d9
  obtain ⟨h1, h2, h3, h4, h5, h6, h7, h8, h9⟩ := d9'
  have hρv : ρ ∉ Lv := fun h => by have := (hL ρ (List.mem_append_left _ h)).2.2.2.1; omega
  have hρw : ρ ∉ Lw := fun h => by have := (hL ρ (List.mem_append_right _ h)).2.2.2.1; omega
  have hlvL : ∀ x, x ∈ lv → x ∈ q ∧ b x ∈ Lv := d8.2.2.2.2.1
  have hZq : ∀ z, z ∈ lw ++ sw → z ∈ q ∧ (b z ∈ Lw ∨ b z = ρ) := by
    intro z hz
    rcases List.mem_append.mp hz with h | h
    · exact ⟨(h5 z h).1, Or.inl (h5 z h).2⟩
    · exact ⟨(h7 z h).1, Or.inr (h7 z h).2⟩
  have P0 : ∀ x, x ∉ lv → x ∉ lw → p' x = p x := fun x e1 e2 => by rw [hp x e2, sk_ov_n e1]
  have hZ : wk_W (fun a => p' (m a)) w (lw ++ sw) ρ := by
    refine wk_congr (wk_app h1 h2) (fun a ha => P0 (m a) (fun h => ?_) (fun h => ?_))
    · obtain ⟨i1, i2⟩ := hlvL _ h
      rw [(hmm a (hZq a ha).1 i1).1] at i2
      rcases (hZq a ha).2 with h | h
      · exact d7 _ i2 h
      · exact hρv (h ▸ i2)
    · exact h9 a ha (m a) (List.mem_append_left _ h) rfl
  have hLv : ∀ c, c ∈ Lv → c ∈ q ∧ b c = c ∧ c ≠ r := fun c hc => by
    obtain ⟨i1, i2, i3, i4, i5⟩ := hL c (List.mem_append_left _ hc)
    exact ⟨i1, i2, i5⟩
  have hLw : ∀ c, c ∈ Lw → c ∈ q ∧ b c = c ∧ c ≠ r := fun c hc => by
    obtain ⟨i1, i2, i3, i4, i5⟩ := hL c (List.mem_append_right _ hc)
    exact ⟨i1, i2, i5⟩
  have P1 : ∀ x, x ∉ lv → b x ∉ Lw → p' x = p x := fun x e1 e2 => P0 x e1 (fun h => e2 (h5 x h).2)
  refine ⟨fun x hx hb => sk_side hm hmr A d4 hLv hLw d7 ⟨r1, r2, hρv, hρw⟩ d8 hZ hZq h9 h8 P1 hP2 hx hb, fun x hx => ?_⟩
  obtain ⟨l1, l2, e⟩ := List.append_of_mem (d8.2.2.2.2.2.1 _ hx)
  have := sk_back hm hmr A hLv d7 ⟨r1, r2, hρv, hρw⟩ d8 hZ hZq h9 h8 hP2 (m x :: l1.reverse) l2 (by rw [e]; simp)
  have e2 : sk_tp m w (m x :: l1.reverse) = x := hm.1 x
  rw [e2] at this
  exact ⟨_, this⟩
end
end
section
section
variable {G : Nat → Nat → Prop} {m : Nat → Nat} {r : Nat} {q n : List Nat} {p b b' p' : Nat → Nat} {ρ v w : Nat} {Lv Lw lv sv lw sw : List Nat} {ev ew : Nat}
theorem sk_after (hG : mg_G G) (hm : mg_M G m) (hmr : m r = r) (A : sv_A G m r q p b) (D : sk_D G m r q p b ρ v w Lv Lw lv lw sv sw ev ew)
    (hp1 : ∀ x, x ∉ lw → p' x = sk_ov m p w lv x) (hp2 : ∀ x, x ∉ lv → p' x = sk_ov m p v lw x)
    (hn1 : n.Nodup) (hn2 : ∀ x, x ∈ n ↔ m x ∈ Lv ++ Lw) (hb1 : ∀ x, (b x ∈ Lv ++ Lw ∨ m x ∈ Lv ++ Lw) → b' x = ρ) (hb2 : ∀ x, ¬ (b x ∈ Lv ++ Lw ∨ m x ∈ Lv ++ Lw) → b' x = b x) :
    sv_A G m r (q ++ n) p' b' := by
  obtain ⟨⟨r1, r2⟩, hL⟩ := sk_L hm A D
  obtain ⟨wv1, wv2⟩ := sk_walks hm hmr A D hp1
  obtain ⟨ww1, ww2⟩ := sk_walks hm hmr A (sk_D_sym hG D) hp2
  have hev := fun x => sk_pe hm A D hp1 (x := x)
  have hew := fun x => sk_pe hm A (sk_D_sym hG D) hp2 (x := x)
  have hbr := sv_br A
  have hmb := fun x => sv_mb hm hmr A (x := x)
  obtain ⟨a1, a2, a3, a4, a5, a6, a7, a8, a9, a10, a11, a12, a13⟩ := A
  obtain ⟨d1, d2, d3, d4, d5, d6, d7, d8, d9⟩ := D
  obtain ⟨g1, g2, g3, g4, g5, g6, g7, g8, g9⟩ := d8
  obtain ⟨h1, h2, h3, h4, h5, h6, h7, h8, h9⟩ := d9
  have P0 : ∀ x, x ∉ lv → x ∉ lw → p' x = p x := fun x e1 e2 => by rw [hp1 x e2, sk_ov_n e1]
  have hlq : ∀ x, x ∉ q → p' x = p x := fun x hx => P0 x (fun h => hx (g5 x h).1) (fun h => hx (h5 x h).1)
  have hρL : ρ ∉ Lv ++ Lw := fun h => by have := (hL ρ h).2.2.2.1; omega
  have F2 : ∀ x, m x ∈ Lv ++ Lw → x ∉ q ∧ p x < 10 := by
    intro x hx
    obtain ⟨i1, i2, i3, i4, i5⟩ := hL _ hx
    have := (a10 _ i1 i5 i2).2
    rw [hm.1] at this i3
    exact ⟨i3, this⟩
  have F3 : ∀ x, x ∈ q → m x ∉ Lv ++ Lw := fun x hx h => (F2 x h).1 hx
  have F4 : ∀ x, x ∈ q → b x ∉ Lv ++ Lw → b' x = b x := fun x hx h => hb2 x (fun e => e.elim h (F3 x hx))
  have hbρ : b' ρ = ρ := by rw [F4 ρ r1 (by rw [r2]; exact hρL), r2]
  have hnq : ∀ x, x ∈ n → x ∉ q := fun x hx => (F2 x ((hn2 x).mp hx)).1
  have hm10 : ∀ x, x ∈ q → x ≠ r → m x < 10 := fun x hx hr => (hG _ _ (hm.2 x (a5 x hx hr))).2.2.1
  have hin : ∀ x, x ∈ q ++ n → x ∈ q ∨ (x ∉ q ∧ m x ∈ Lv ++ Lw) := by
    intro x hx
    rcases List.mem_append.mp hx with h | h
    · exact Or.inl h
    · exact Or.inr ⟨hnq x h, (hn2 x).mp h⟩
  have hlvL : ∀ x, x ∈ lv → b x ∈ Lv ++ Lw := fun x hx => List.mem_append_left _ (g5 x hx).2
  have hlwL : ∀ x, x ∈ lw → b x ∈ Lv ++ Lw := fun x hx => List.mem_append_right _ (h5 x hx).2
  have hLr : ∀ x, b x ∈ Lv ++ Lw → x ≠ r := fun x hx e => by rw [e, hbr] at hx; exact (hL r hx).2.2.2.2 rfl
  refine ⟨?_, ?_, ?_, ?_, ?_, ?_, ?_, ?_, ?_, ?_, ?_, ?_, ?_⟩
  · rw [List.nodup_append]
    exact ⟨a1, hn1, fun x hx y hy e => hnq y hy (e ▸ hx)⟩
  · exact List.mem_append_left _ a2
  · rw [sv_ia a2]; exact a3
  · intro x hx
    rcases hin x hx with h | ⟨h, h'⟩
    · exact a4 x h
    · obtain ⟨i1, i2, i3, i4, i5⟩ := hL _ h'
      have := hm10 _ i1 i5
      rw [hm.1] at this
      exact this
  · intro x hx hr
    rcases hin x hx with h | ⟨h, h'⟩
    · exact a5 x h hr
    · intro e
      exact h (by rw [← e]; exact (hL _ h').1)
  · intro x hx
    by_cases hK : b x ∈ Lv ++ Lw ∨ m x ∈ Lv ++ Lw
    · rw [hb1 x hK]
      refine ⟨List.mem_append_left _ r1, hbρ, ?_⟩
      rw [sv_ia r1]
      by_cases hq : x ∈ q
      · rw [sv_ia hq]
        rcases hK with hK | hK
        · have := (hL _ hK).2.2.2.1
          have := (a6 x hq).2.2
          omega
        · exact absurd hK (F3 x hq)
      · have := sv_ib (n := n) hq
        have := sv_il r1
        omega
    · have hq : x ∈ q := by
        rcases hin x hx with h | ⟨_, h'⟩
        · exact h
        · exact absurd (Or.inr h') hK
      obtain ⟨i1, i2, i3⟩ := a6 x hq
      rw [hb2 x hK]
      refine ⟨List.mem_append_left _ i1, ?_, ?_⟩
      · rw [F4 _ i1 (by rw [i2]; exact fun h => hK (Or.inl h)), i2]
      · rw [sv_ia i1, sv_ia hq]; exact i3
  · intro x hx
    have hq : x ∉ q := fun h => hx (List.mem_append_left _ h)
    have hnn : x ∉ n := fun h => hx (List.mem_append_right _ h)
    rw [hb2 x (fun e => ?_), a7 x hq]
    rcases e with e | e
    · rw [a7 x hq] at e
      exact hq (hL x e).1
    · exact hnn ((hn2 x).mpr e)
  · intro x hx hb
    rcases hin x hx with h | ⟨h, h'⟩
    · by_cases hK : b x ∈ Lv ++ Lw
      · rw [hb1 x (Or.inl hK)]
        by_cases e : b x = x
        · rw [e] at hK
          have hmx : m (m x) ∈ Lv ++ Lw := by rw [hm.1]; exact hK
          exact ⟨List.mem_append_right _ ((hn2 _).mpr hmx), hb1 _ (Or.inr hmx)⟩
        · obtain ⟨i1, i2⟩ := a8 x h e
          exact ⟨List.mem_append_left _ i1, hb1 _ (Or.inl (by rw [i2]; exact hK))⟩
      · rw [F4 x h hK] at hb ⊢
        obtain ⟨i1, i2⟩ := a8 x h hb
        exact ⟨List.mem_append_left _ i1, by rw [F4 _ i1 (by rw [i2]; exact hK), i2]⟩
    · obtain ⟨i1, i2, i3, i4, i5⟩ := hL _ h'
      rw [hb1 x (Or.inr h'), hb1 (m x) (Or.inl (by rw [i2]; exact h'))]
      exact ⟨List.mem_append_left _ i1, rfl⟩
  · intro x hx hp
    have hq : x ∉ q := fun h => hx (List.mem_append_left _ h)
    have hnn : m x ∉ Lv ++ Lw := fun h => hx (List.mem_append_right _ ((hn2 x).mpr h))
    rw [hlq x hq] at hp ⊢
    obtain ⟨i1, i2, i3, i4⟩ := a9 x hq hp
    refine ⟨List.mem_append_left _ i1, List.mem_append_left _ i2, ?_, ?_⟩
    · rw [F4 _ i2 (by rw [i3]; exact hnn), i3]
    · rw [sv_ia i1, sv_ia i2]; exact i4
  · intro x hx hr hb
    by_cases hK : b x ∈ Lv ++ Lw ∨ m x ∈ Lv ++ Lw
    · rw [hb1 x hK] at hb
      rw [← hb] at hK
      rcases hK with hK | hK
      · rw [r2] at hK; exact absurd hK hρL
      · exact absurd hK (F3 ρ r1)
    · have hq : x ∈ q := by
        rcases hin x hx with h | ⟨_, h'⟩
        · exact h
        · exact absurd (Or.inr h') hK
      rw [hb2 x hK] at hb
      obtain ⟨i1, i2⟩ := a10 x hq hr hb
      refine ⟨fun h => ?_, by rw [hlq _ i1]; exact i2⟩
      rcases hin _ h with h | ⟨_, h'⟩
      · exact i1 h
      · rw [hm.1] at h'
        exact hK (Or.inl (by rw [hb]; exact h'))
  · intro x hx
    rcases hin x hx with h | ⟨h, h'⟩
    · by_cases hK : b x ∈ Lv ++ Lw
      · rw [hb1 x (Or.inl hK)]
        have hne : ρ ≠ x := fun e => by rw [← e, r2] at hK; exact hρL hK
        refine ⟨fun _ => hne, fun _ => ?_⟩
        by_cases e1 : x ∈ lv
        · rcases hev x e1 with ⟨_, e⟩ | ⟨a, i1, _, e⟩
          · rw [e]; exact a4 w d2
          · rw [e]; exact hm10 a (g5 a i1).1 (hLr a (hlvL a i1))
        · by_cases e2 : x ∈ lw
          · rcases hew x e2 with ⟨_, e⟩ | ⟨a, i1, _, e⟩
            · rw [e]; exact a4 v d1
            · rw [e]; exact hm10 a (h5 a i1).1 (hLr a (hlwL a i1))
          · rw [P0 x e1 e2]
            refine (a11 x h).mpr (fun e => ?_)
            rw [e] at hK
            rcases List.mem_append.mp hK with hK | hK
            · exact e1 (g6 x hK)
            · exact e2 (h6 x hK)
      · rw [F4 x h hK, P0 x (fun e => hK (hlvL x e)) (fun e => hK (hlwL x e))]
        exact a11 x h
    · rw [hb1 x (Or.inr h'), hlq x h]
      exact ⟨fun _ e => h (e ▸ r1), fun _ => (F2 x h').2⟩
  · intro x hp
    by_cases e1 : x ∈ lv
    · rcases hev x e1 with ⟨e2, e⟩ | ⟨a, i1, e2, e⟩
      · rw [e, e2]; exact d3
      · rw [e]
        have hx10 := a4 x (g5 x e1).1
        have := a12 (m a) (by rw [← e2]; exact hx10)
        rw [← e2] at this
        exact (hG _ _ this).1
    · by_cases e3 : x ∈ lw
      · rcases hew x e3 with ⟨e2, e⟩ | ⟨a, i1, e2, e⟩
        · rw [e, e2]; exact (hG _ _ d3).1
        · rw [e]
          have hx10 := a4 x (h5 x e3).1
          have := a12 (m a) (by rw [← e2]; exact hx10)
          rw [← e2] at this
          exact (hG _ _ this).1
      · rw [P0 x e1 e3] at hp ⊢
        exact a12 x hp
  · have conv : ∀ x Lx Ly N, (∀ c, c ∈ Lx → c ∈ Lv ++ Lw) → (∀ c, c ∈ Ly → c ∈ Lv ++ Lw) → b' x = ρ → sk_new m q b p' ρ Lx Ly x N → sv_sg m (q ++ n) p' b' x N := by
      intro x Lx Ly N hx1 hx2 hbx ⟨w1, w2, w3, w4⟩
      refine ⟨by rw [hbx]; exact w1, by rw [hbx]; exact w2, fun a ha => ?_, w4⟩
      rw [hbx]
      rcases w3 a ha with ⟨i1, i2 | i2 | i2⟩ | i2
      · exact ⟨List.mem_append_left _ i1, hb1 a (Or.inl (hx1 _ i2))⟩
      · exact ⟨List.mem_append_left _ i1, hb1 a (Or.inl (hx2 _ i2))⟩
      · exact ⟨List.mem_append_left _ i1, by rw [F4 a i1 (by rw [i2]; exact hρL), i2]⟩
      · exact ⟨List.mem_append_right _ ((hn2 a).mpr (hx1 _ i2)), hb1 a (Or.inr (hx1 _ i2))⟩
    have inl : ∀ c, c ∈ Lv → c ∈ Lv ++ Lw := fun c hc => List.mem_append_left _ hc
    have inr : ∀ c, c ∈ Lw → c ∈ Lv ++ Lw := fun c hc => List.mem_append_right _ hc
    intro x hx
    rcases hin x hx with h | ⟨h, h'⟩
    · by_cases hK : b x ∈ Lv ++ Lw
      · rcases List.mem_append.mp hK with k | k
        · obtain ⟨N, hN⟩ := wv1 x h k
          exact ⟨N, conv x _ _ N inl inr (hb1 x (Or.inl hK)) hN⟩
        · obtain ⟨N, hN⟩ := ww1 x h k
          exact ⟨N, conv x _ _ N inr inl (hb1 x (Or.inl hK)) hN⟩
      · obtain ⟨l, s1, s2, s3, s4⟩ := a13 x h
        have e := F4 x h hK
        refine ⟨l, ?_, by rw [e]; exact s2, fun a ha => ?_, s4⟩
        · rw [e]
          refine wk_congr s1 (fun a ha => ?_)
          obtain ⟨i1, i2⟩ := s3 a ha
          have hab : b a ≠ a := by
            rw [i2]
            intro e2
            exact s2 (by rw [e2]; exact ha)
          obtain ⟨j1, j2, j3, j4⟩ := hmb a i1 hab
          have : b (m a) ∉ Lv ++ Lw := by rw [j2, i2]; exact hK
          exact P0 (m a) (fun e => this (hlvL _ e)) (fun e => this (hlwL _ e))
        · obtain ⟨i1, i2⟩ := s3 a ha
          exact ⟨List.mem_append_left _ i1, by rw [F4 a i1 (by rw [i2]; exact hK), e, i2]⟩
    · rcases List.mem_append.mp h' with k | k
      · obtain ⟨N, hN⟩ := wv2 x k
        exact ⟨N, conv x _ _ N inl inr (hb1 x (Or.inr h')) hN⟩
      · obtain ⟨N, hN⟩ := ww2 x k
        exact ⟨N, conv x _ _ N inr inl (hb1 x (Or.inr h')) hN⟩
/-- what has been looked at stays in order, and the new edge lies within one kin -/
theorem sk_scan (hG : mg_G G) (hm : mg_M G m) (A : sv_A G m r q p b) (D : sk_D G m r q p b ρ v w Lv Lw lv lw sv sw ev ew)
    (hp1 : ∀ x, x ∉ lw → p' x = sk_ov m p w lv x)
    (hn2 : ∀ x, x ∈ n ↔ m x ∈ Lv ++ Lw) (hb1 : ∀ x, (b x ∈ Lv ++ Lw ∨ m x ∈ Lv ++ Lw) → b' x = ρ) (hb2 : ∀ x, ¬ (b x ∈ Lv ++ Lw ∨ m x ∈ Lv ++ Lw) → b' x = b x)
    {i j : Nat} (hi : i < q.length) (S : sv_S G q p b i j) : sv_S G (q ++ n) p' b' i j ∧ b' v = ρ ∧ b' w = ρ := by
  obtain ⟨⟨r1, r2⟩, hL⟩ := sk_L hm A D
  obtain ⟨a1, a2, a3, a4, a5, a6, a7, a8, a9, a10, a11, a12, a13⟩ := A
  obtain ⟨d1, d2, d3, d4, d5, d6, d7, d8, d9⟩ := D
  have hρL : ρ ∉ Lv ++ Lw := fun h => by have := (hL ρ h).2.2.2.1; omega
  have F3 : ∀ x, x ∈ q → m x ∉ Lv ++ Lw := fun x hx h => by
    have := (hL _ h).2.2.1
    rw [hm.1] at this
    exact this hx
  have F5 : ∀ x y, x ∈ q → y ∈ q → b x = b y → b' x = b' y := by
    intro x y hx hy e
    by_cases hK : b x ∈ Lv ++ Lw
    · rw [hb1 x (Or.inl hK), hb1 y (Or.inl (e ▸ hK))]
    · rw [hb2 x (fun h => h.elim hK (F3 x hx)), hb2 y (fun h => h.elim (fun h => hK (e ▸ h)) (F3 y hy)), e]
  have hend : ∀ x L, x ∈ q → wk_W (fun a => b (p (m a))) (b x) L ρ → (∀ c, c ∈ L → c ∈ Lv ++ Lw) → b' x = ρ := by
    intro x L hx hW hin
    cases L with
    | nil =>
      have e : b x = ρ := hW
      rw [hb2 x (fun h => h.elim (fun h => hρL (e ▸ h)) (F3 x hx)), e]
    | cons c t =>
      exact hb1 x (Or.inl (hin _ (by rw [hW.1]; exact List.mem_cons_self)))
  refine ⟨?_, hend v Lv d1 d4 (fun c hc => List.mem_append_left _ hc), hend w Lw d2 d5 (fun c hc => List.mem_append_right _ hc)⟩
  have hsc : ∀ x y, x ∈ q → (sv_sc (q ++ n) i j x y ↔ sv_sc q i j x y) := by
    intro x y hx
    unfold sv_sc
    rw [sv_ia hx]
  have hsn : ∀ x y, x ∉ q → ¬ sv_sc (q ++ n) i j x y := by
    intro x y hx h
    have := sv_ib (n := n) hx
    unfold sv_sc at h
    omega
  intro x hx y hg hs
  have hxq : x ∈ q := by
    by_cases e : x ∈ q
    · exact e
    · exact absurd hs (hsn x y e)
  rcases S x hxq y hg ((hsc x y hxq).mp hs) with ⟨k1, k2⟩ | ⟨k1, k2⟩
  · by_cases e : y ∈ n
    · exact Or.inr ⟨List.mem_append_right _ e, Or.inr (hsn y x k1)⟩
    · refine Or.inl ⟨fun h => (List.mem_append.mp h).elim k1 e, ?_⟩
      have e1 : y ∉ lv := fun h => k1 (d8.2.2.2.2.1 y h).1
      have e2 : y ∉ lw := fun h => k1 (d9.2.2.2.2.1 y h).1
      rw [hp1 y e2, sk_ov_n e1]
      exact k2
  · refine Or.inr ⟨List.mem_append_left _ k1, ?_⟩
    rcases k2 with k2 | k2
    · exact Or.inl (F5 x y hxq k1 k2)
    · exact Or.inr (fun h => k2 ((hsc y x k1).mp h))
theorem sv_next (hG : mg_G G) (A : sv_A G m r q p b) {i j : Nat} (hv : v ∈ q) (hi : q.idxOf v = i) (S : sv_S G q p b i j) (hp : G v j → (j ∉ q ∧ p j < 10) ∨ (j ∈ q ∧ b v = b j)) : sv_S G q p b i (j + 1) := by
  intro x hx y hg hs
  by_cases hs2 : sv_sc q i j x y
  · rcases S x hx y hg hs2 with k | ⟨k1, k2⟩
    · exact Or.inl k
    · refine Or.inr ⟨k1, ?_⟩
      rcases k2 with k2 | k2
      · exact Or.inl k2
      · by_cases hs3 : sv_sc q i (j + 1) y x
        · have e1 : q.idxOf y = i ∧ x = j := by
            unfold sv_sc at k2 hs3
            omega
          have e2 : y = v := sv_idx k1 hv (by omega)
          have hg2 := (hG _ _ hg).1
          rw [e2, e1.2] at hg2
          rcases hp hg2 with ⟨h1, _⟩ | ⟨_, h2⟩
          · rw [← e1.2] at h1; exact absurd hx h1
          · refine Or.inl ?_
            rw [e2, e1.2, h2]
        · exact Or.inr hs3
  · have e1 : q.idxOf x = i ∧ y = j := by
      unfold sv_sc at hs hs2
      omega
    have e2 : x = v := sv_idx hx hv (by omega)
    rw [e2, e1.2] at hg ⊢
    rcases hp hg with h | ⟨h1, h2⟩
    · exact Or.inl h
    · exact Or.inr ⟨h1, Or.inl h2⟩
theorem sv_nexti (hG : mg_G G) {i : Nat} (S : sv_S G q p b i 10) : sv_S G q p b (i + 1) 0 := by
  intro x hx y hg hs
  have h10 := hG _ _ hg
  have : sv_sc q i 10 x y := by unfold sv_sc at hs ⊢; omega
  rcases S x hx y hg this with k | ⟨k1, k2⟩
  · exact Or.inl k
  · refine Or.inr ⟨k1, k2.elim Or.inl (fun k3 => Or.inr (fun h => k3 ?_))⟩
    unfold sv_sc at h ⊢
    omega
theorem sv_growS (hG : mg_G G) (A : sv_A G m r q p b) (hw : w ∉ q) (hpw : ¬ p w < 10) (hv10 : v < 10) (hmwq : m w ∉ q) (hpm : ¬ p (m w) < 10) {i j : Nat} (hi : i < q.length) (S : sv_S G q p b i j) : sv_S G (q ++ [m w]) (fun x => if x = w then v else p x) b i j := by
  have hsc : ∀ x y, x ∈ q → (sv_sc (q ++ [m w]) i j x y ↔ sv_sc q i j x y) := by
    intro x y hx
    unfold sv_sc
    rw [sv_ia hx]
  have hsn : ∀ x y, x ∉ q → ¬ sv_sc (q ++ [m w]) i j x y := by
    intro x y hx h
    have := sv_ib (n := [m w]) hx
    unfold sv_sc at h
    omega
  intro x hx y hg hs
  have hxq : x ∈ q := by
    by_cases e : x ∈ q
    · exact e
    · exact absurd hs (hsn x y e)
  rcases S x hxq y hg ((hsc x y hxq).mp hs) with ⟨k1, k2⟩ | ⟨k1, k2⟩
  · have e : y ≠ m w := fun e => hpm (e ▸ k2)
    refine Or.inl ⟨fun h => (List.mem_append.mp h).elim k1 (fun h => e (by simpa using h)), ?_⟩
    show (if y = w then v else p y) < 10
    split
    · exact hv10
    · exact k2
  · refine Or.inr ⟨List.mem_append_left _ k1, ?_⟩
    exact k2.elim Or.inl (fun k3 => Or.inr (fun h => k3 ((hsc y x k1).mp h)))
/-- a full search gives the certificate -/
theorem sv_cert (hG : mg_G G) (hm : mg_M G m) (hmr : m r = r) (A : sv_A G m r q p b) (S : sv_S G q p b q.length 0) {N : Nat → Nat} (hN : mg_M G N) : ∃ x, x ∈ q ∧ N x = x := by
  have hbr := sv_br A
  have hmb := fun x => sv_mb hm hmr A (x := x)
  obtain ⟨a1, a2, a3, a4, a5, a6, a7, a8, a9, a10, a11, a12, a13⟩ := A
  refine mc_cert hm a1 a2 hmr hbr (fun x hx => ⟨(a6 x hx).1, (a6 x hx).2.1⟩) (fun x hx hb => hmb x hx hb) (O := fun y => y ∉ q ∧ p y < 10) ?_ ?_ hN
  · intro x ⟨h1, h2⟩
    obtain ⟨i1, i2, i3, i4⟩ := a9 x h1 h2
    exact ⟨h1, i2, i3, fun e => h1 (e ▸ i2)⟩
  · intro x hx y hg
    rcases S x hx y hg (Or.inl (sv_il hx)) with h | ⟨h1, h2⟩
    · exact Or.inl h
    · refine Or.inr ⟨h1, h2.elim id (fun h => absurd (Or.inl (sv_il h1)) h)⟩
/-- the whole walk from an even vertex back to the root -/
theorem sv_full (hm : mg_M G m) (hmr : m r = r) (A : sv_A G m r q p b) {x : Nat} (hx : x ∈ q) : ∃ l, wk_W (fun a => p (m a)) x l r ∧ r ∉ l ∧ (∀ a, a ∈ l → a ∈ q ∧ m a ≠ a ∧ G (m a) (p (m a))) ∧ (∀ a, a ∈ l → ∀ c, c ∈ l → m a ≠ c) := by
  have hev := fun w => sv_even hm hmr A w
  have hA := A
  obtain ⟨a1, a2, a3, a4, a5, a6, a7, a8, a9, a10, a11, a12, a13⟩ := A
  obtain ⟨L, c1, c2, c3⟩ := sv_chr hm hA _ _ (a6 x hx).1 (a6 x hx).2.1 (Nat.le_refl _)
  obtain ⟨l, e, s, g1, g2, g3, g4, g5, g6, g7, g8, g9⟩ := sv_goE hm hmr hA hx c1 c2
  refine ⟨l ++ s, wk_app g1 g2, g8, fun a ha => ?_, g9⟩
  have haq : a ∈ q := by
    rcases List.mem_append.mp ha with h | h
    · exact (g5 a h).1
    · exact (g7 a h).1
  have har : a ≠ r := fun e => g8 (e ▸ ha)
  rcases (hev a).mp haq with h | ⟨h1, h2⟩
  · exact absurd h har
  · exact ⟨haq, h1, a12 _ h2⟩
/-- an even vertex can be missed instead of the root -/
theorem sv_miss (hG : mg_G G) (hm : mg_M G m) (hmr : m r = r) (A : sv_A G m r q p b) {x : Nat} (hx : x ∈ q) (hxr : x ≠ r) : ∃ m', mg_M G m' ∧ ∀ z, m' z ≠ z ↔ ((m z ≠ z ∧ z ≠ x) ∨ z = r) := by
  obtain ⟨l, h1, h2, h3, h4⟩ := sv_full hm hmr A hx
  cases l with
  | nil => exact absurd h1 hxr
  | cons a t =>
    have hnd := List.nodup_cons.mp (wk_nodup h1 h2)
    obtain ⟨e, h1⟩ := h1
    subst e
    obtain ⟨k1, k2, k3⟩ := h3 x List.mem_cons_self
    obtain ⟨y, hy⟩ : ∃ y, y = m x := ⟨_, rfl⟩
    have hyx : m y = x := by rw [hy]; exact hm.1 x
    rw [← hy] at k2 k3
    have hyr : y ≠ r := fun e => by rw [e, hmr] at hyx; exact hxr hyx.symm
    have hyt : y ∉ t := fun e => h4 x List.mem_cons_self y (List.mem_cons_of_mem _ e) hy.symm
    have hsame : ∀ c, c ∈ t → mg_del m x y c = m c := fun c hc => mg_del_o (fun e => hnd.1 (e ▸ hc)) (fun e => hyt (e ▸ hc))
    obtain ⟨m', i1, i2⟩ := wk_flip hG (p := p) (r := r) t (p y) y (mg_del m x y) (mg_delM hm hy.symm) (wk_congr (show wk_W (fun a => p (m a)) (p y) t r by rw [hy]; exact h1) (fun c hc => by show p _ = p _; rw [hsame c hc]))
      (by rw [mg_del_o (Ne.symm hxr) (Ne.symm hyr)]; exact hmr) mg_del_b k3
      (fun c hc => by rw [hsame c hc]; exact (h3 c (List.mem_cons_of_mem _ hc)).2)
      (fun c hc d hd => by rw [hsame c hc]; exact h4 c (List.mem_cons_of_mem _ hc) d (List.mem_cons_of_mem _ hd))
      (fun e => h2 (List.mem_cons_of_mem _ e)) hyr
    refine ⟨m', i1, fun z => ?_⟩
    rw [i2 z, mg_del_ne]
    have j1 : m x ≠ x := by rw [← hy]; exact k2
    have j2 : m y ≠ y := by rw [hyx]; exact Ne.symm k2
    grind
end
end
section
/-! ===== sets of vertices as bits; the graph ===== -/
theorem xb_b1 : ∀ k, k < 32 → bt 1 k = decide (k = 0) := by decide +kernel
theorem xb_bit (s : Int32) {i : Nat} (hi : i < 32) : ((s >>> (nI i &&& 31)) &&& 1) = if bt s i = true then 1 else 0 := by
  apply b_ext
  intro k hk
  rw [b_and, b_sshr i hi s hk, xb_b1 k hk]
  by_cases e : k = 0
  · subst e
    cases h : bt s i
    · simp [hi, h, b_0]
    · simp [hi, h]; decide
  · have : bt (if bt s i = true then (1 : Int32) else 0) k = false := by
      split
      · rw [xb_b1 k hk]; simp [e]
      · exact b_0 k
    rw [this]; simp [e]
theorem xb_bit1 (s : Int32) {i : Nat} (hi : i < 32) : ((s >>> (nI i &&& 31)) &&& 1) = 1 ↔ bt s i = true := by
  rw [xb_bit s hi]
  split
  · simp [*]
  · rename_i h
    exact ⟨fun e => absurd e (by decide), fun e => absurd e h⟩
theorem xb_one {i j : Nat} (hi : i < 32) (hj : j < 32) : bt ((1 : Int32) <<< (nI i &&& 31)) j = decide (j = i) := by
  rw [b_shl i hi 1 hj, xb_b1 (j - i) (by omega)]
  by_cases e : j = i
  · subst e; simp
  · simp [e]; omega
theorem xb_not (x : Int32) {j : Nat} (hj : j < 32) : bt (x ^^^ (-1)) j = !bt x j := by
  rw [b_xor, b_m1 j hj]; cases bt x j <;> rfl
theorem xb_andn (s t : Int32) (j : Nat) : bt (s &&& (t ^^^ (-1))) j = (bt s j && !bt t j) := by
  rcases Nat.lt_or_ge j 32 with h | h
  · rw [b_and, xb_not t h]
  · rw [b_big h, b_big h]; rfl
theorem xb_clr (s : Int32) {i : Nat} (hi : i < 32) (j : Nat) : bt (s &&& (((1 : Int32) <<< (nI i &&& 31)) ^^^ (-1))) j = (bt s j && decide (j ≠ i)) := by
  rw [xb_andn]
  rcases Nat.lt_or_ge j 32 with h | h
  · rw [xb_one hi h]; simp
  · rw [b_big (x := s) h]; rfl
theorem xb_set (s : Int32) {i : Nat} (hi : i < 32) (j : Nat) : bt (s ||| ((1 : Int32) <<< (nI i &&& 31))) j = (bt s j || decide (j = i)) := by
  rcases Nat.lt_or_ge j 32 with h | h
  · rw [b_or, xb_one hi h]
  · rw [b_big h, b_big h, decide_eq_false (by omega)]; rfl
theorem xb_eq {x y : Int32} (h : ∀ j, bt x j = bt y j) : x = y := b_ext (fun j _ => h j)
def xb_sm (s : Int32) : Prop := ∀ j, 10 ≤ j → bt s j = false
theorem xb_tn (s : Int32) (j : Nat) : bt s j = s.toBitVec.toNat.testBit j := rfl
theorem xb_nI {n j : Nat} (hj : j < 32) : bt (nI n) j = n.testBit j := by
  show (BitVec.ofNat 32 n).getLsbD j = _
  rw [BitVec.getLsbD_ofNat]; simp [hj]
theorem xb_of (s : Int32) : s = nI s.toBitVec.toNat := by
  apply Int32.toBitVec_inj.mp
  apply BitVec.eq_of_toNat_eq
  rw [pk_tn s.toBitVec.isLt]
theorem xb_sm_nI {s : Int32} (h : xb_sm s) : ∃ n, n < 1024 ∧ s = nI n ∧ s.toNatClampNeg = n ∧ vp_in s 1024 := by
  have hn : s.toBitVec.toNat < 2 ^ 10 := Nat.lt_pow_two_of_testBit _ (fun j hj => h j hj)
  have e := xb_of s
  generalize s.toBitVec.toNat = n at hn e
  subst e
  exact ⟨n, hn, rfl, nI_clamp (by omega), vp_in_nI hn (by omega)⟩
theorem xb_sm_of {n : Nat} (h : n < 1024) : xb_sm (nI n) := by
  intro j hj
  rcases Nat.lt_or_ge j 32 with h2 | h2
  · rw [xb_nI h2]
    exact Nat.testBit_lt_two_pow (Nat.lt_of_lt_of_le (show n < 2 ^ 10 from h) (Nat.pow_le_pow_right (by decide) hj))
  · exact b_big h2
theorem xb_sm_and {s t : Int32} (h : xb_sm s) : xb_sm (s &&& t) := fun j hj => by rw [b_and, h j hj]; rfl
theorem xb_sm_or {s t : Int32} (h : xb_sm s) (h2 : xb_sm t) : xb_sm (s ||| t) := fun j hj => by rw [b_or, h j hj, h2 j hj]; rfl
theorem xb_sm_0 : xb_sm 0 := fun j _ => b_0 j
theorem xb_sm_1023 : xb_sm 1023 := xb_sm_of (n := 1023) (by decide)
theorem xb_1023 : ∀ j, j < 10 → bt 1023 j = true := by decide +kernel
theorem xb_inX {s x : Int32} {A B : Prop} (i : Nat) (hx : x = nI i) (hi : i < 32) (hA : bt s i = false → A) (hB : bt s i = true → B) : wpX_in (fun r => (r = 0 → A) ∧ (¬ r = 0 → B)) s x := by
  subst hx
  have e := xb_bit1 s hi
  refine ⟨fun h => br_f (by decide) (hB (e.mp h)), fun h => br_t rfl (hA ?_)⟩
  cases hb : bt s i
  · rfl
  · exact absurd (e.mpr hb) h
theorem xb_inY {s x : Int32} {A B : Prop} {u : SY} (i : Nat) (hx : x = nI i) (hi : i < 32) (hA : bt s i = false → A) (hB : bt s i = true → B) : wpY_has (fun r => (r = 0 → A) ∧ (¬ r = 0 → B)) u s x := by
  subst hx
  obtain ⟨f_on, a_edges, a_most⟩ := u
  have e := xb_bit1 s hi
  refine ⟨fun h => br_f (by decide) (hB (e.mp h)), fun h => br_t rfl (hA ?_)⟩
  cases hb : bt s i
  · rfl
  · exact absurd (e.mpr hb) h
/-- the graph of the edges among S, and the same without a barred pair -/
def gr_G (ed : Nat → Int32) (S : Int32) (x y : Nat) : Prop := x < 10 ∧ y < 10 ∧ bt (ed x) y = true ∧ bt S x = true ∧ bt S y = true
def gr_B (ed : Nat → Int32) (S A B : Int32) (x y : Nat) : Prop := gr_G ed S x y ∧ ¬ (nI x = A ∧ nI y = B) ∧ ¬ (nI x = B ∧ nI y = A)
def gr_W (ed : Nat → Int32) : Prop := ∀ x, x < 10 → (∀ y, y < 10 → bt (ed x) y = bt (ed y) x) ∧ bt (ed x) x = false ∧ ∀ j, 10 ≤ j → bt (ed x) j = false
theorem gr_GG {ed : Nat → Int32} (h : gr_W ed) (S : Int32) : mg_G (gr_G ed S) := by
  intro x y ⟨h1, h2, h3, h4, h5⟩
  refine ⟨⟨h2, h1, by rw [← (h x h1).1 y h2]; exact h3, h5, h4⟩, h1, h2, fun e => ?_⟩
  rw [← e, (h x h1).2.1] at h3
  exact absurd h3 (by decide)
theorem gr_BG {ed : Nat → Int32} (h : gr_W ed) (S A B : Int32) : mg_G (gr_B ed S A B) := by
  intro x y ⟨h1, h2, h3⟩
  obtain ⟨k1, k2, k3, k4⟩ := gr_GG h S x y h1
  exact ⟨⟨k1, fun e => h3 ⟨e.2, e.1⟩, fun e => h2 ⟨e.2, e.1⟩⟩, k2, k3, k4⟩
theorem xb_ne {n : Nat} (h : n < 10) : nI n ≠ -1 := by
  intro e
  have : (nI n).toInt = (-1 : Int32).toInt := by rw [e]
  rw [nI_toInt (by omega), show (-1 : Int32).toInt = -1 from by decide] at this
  omega
theorem gr_B0 {ed : Nat → Int32} {S : Int32} (x y : Nat) : gr_B ed S (-1) (-1) x y ↔ gr_G ed S x y :=
  ⟨fun h => h.1, fun h => ⟨h, fun e => xb_ne h.1 e.1, fun e => xb_ne h.1 e.1⟩⟩
end
section
/-! ===== X: representation, edges, common base, marks ===== -/
def rp_m (m : Nat → Nat) (a : Nat → Int32) : Prop := ∀ j, j < 10 → m j < 10 ∧ a j = if m j = j then -1 else nI (m j)
def rp_p (p : Nat → Nat) (a : Nat → Int32) : Prop := ∀ j, j < 10 → a j = if p j < 10 then nI (p j) else -1
def rp_b (b : Nat → Nat) (a : Nat → Int32) : Prop := ∀ j, j < 10 → a j = nI (b j)
def rp_q (q : List Nat) (a : Nat → Int32) (wt : Int32) : Prop := wt = nI q.length ∧ ∀ i x, q[i]? = some x → a i = nI x
def rp_e (q : List Nat) (ev : Int32) : Prop := ∀ j, bt ev j = true ↔ j ∈ q
theorem rd_c {j : Nat} (h : j < 10) : (nI j).toNatClampNeg = j := nI_clamp (by omega)
theorem rd_v {j : Nat} (h : j < 10) : vp_in (nI j) 10 := vp_in_nI h (by decide)
theorem rd_b {b : Nat → Nat} {a : Nat → Int32} (h : rp_b b a) {j : Nat} (hj : j < 10) : a (nI j).toNatClampNeg = nI (b j) := by rw [rd_c hj]; exact h j hj
theorem rd_m {m : Nat → Nat} {a : Nat → Int32} (h : rp_m m a) {j : Nat} (hj : j < 10) (e : m j ≠ j) : a (nI j).toNatClampNeg = nI (m j) := by rw [rd_c hj, (h j hj).2, if_neg e]
theorem rd_m0 {m : Nat → Nat} {a : Nat → Int32} (h : rp_m m a) {j : Nat} (hj : j < 10) (e : m j = j) : a (nI j).toNatClampNeg = -1 := by rw [rd_c hj, (h j hj).2, if_pos e]
theorem rd_p {p : Nat → Nat} {a : Nat → Int32} (h : rp_p p a) {j : Nat} (hj : j < 10) (e : p j < 10) : a (nI j).toNatClampNeg = nI (p j) := by rw [rd_c hj, h j hj, if_pos e]
theorem rd_p0 {p : Nat → Nat} {a : Nat → Int32} (h : rp_p p a) {j : Nat} (hj : j < 10) (e : ¬ p j < 10) : a (nI j).toNatClampNeg = -1 := by rw [rd_c hj, h j hj, if_neg e]
theorem rd_i {i : Nat} (h : i < 10) : ¬ (10 : Int32) ≤ nI i := nI_ge (b := 10) h (by decide)
theorem rd_x {i : Nat} (h : i < 10) : ¬ nI i < 0 := nI_pos (by omega)
theorem rd_g {i : Nat} (h : i < 10) : 0 ≤ nI i := nI_pos' (by omega)
theorem rd_n0 : ¬ (0 : Int32) ≤ -1 := by decide
theorem rd_n1 : (-1 : Int32) < 0 := by decide
theorem rd_e {i j : Nat} (hi : i < 10) (hj : j < 10) (h : i ≠ j) : ¬ nI i = nI j := fun e => h ((nI_eq (by omega) (by omega)).mp e)
theorem rw_p {p : Nat → Nat} {a : Nat → Int32} (h : rp_p p a) {x c : Nat} (hc : c < 10) : rp_p (fun y => if y = x then c else p y) (upd a x (nI c)) := by
  intro j hj
  by_cases e : j = x
  · subst e; rw [pk_us]; simp [hc]
  · rw [pk_un e, h j hj]; simp [e]
theorem rw_b {b b2 : Nat → Nat} {a : Nat → Int32} (h : rp_b b a) (e : ∀ j, j < 10 → b j = b2 j) : rp_b b2 a := fun j hj => by rw [h j hj, e j hj]
section
variable {on am bA bB ev wt sh : Int32} {ed mt bs pr qu fm : Nat → Int32}
theorem xs_us34 {post : Int32 → Prop} {v w : Nat} (hv : v < 10) (hw : w < 10) (h0 : (bt (ed v) w = false ∨ bt am w = false) → post 0) (h1 : bt (ed v) w = true → bt am w = true → post 1) : wX_usable_34 post (nI v) (nI w) on am bA bB ev wt sh ed mt bs pr qu fm := by
  unfold wX_usable_34
  rw [rd_c hv]
  exact ⟨rd_v hv, xb_inX w rfl (by omega) (fun e => h0 (Or.inl e)) (fun e => xb_inX w rfl (by omega) (fun e2 => h0 (Or.inr e2)) (fun e2 => h1 e e2))⟩
theorem xs_usable {A B : Prop} {v w : Nat} (hv : v < 10) (hw : w < 10) (hS : bt am v = true) (hA : ¬ gr_B ed am bA bB v w → A) (hB : gr_B ed am bA bB v w → B) : wpX_usable (fun r => (r = 0 → A) ∧ (¬ r = 0 → B)) (on, am, bA, bB, ev, wt, sh, ed, mt, bs, pr, qu, fm) (nI v) (nI w) := by
  have h34 : ¬ (nI v = bA ∧ nI w = bB) → ¬ (nI v = bB ∧ nI w = bA) → wX_usable_34 (fun r => (r = 0 → A) ∧ (¬ r = 0 → B)) (nI v) (nI w) on am bA bB ev wt sh ed mt bs pr qu fm := by
    intro n1 n2
    refine xs_us34 hv hw (fun h => br_t rfl (hA (fun g => ?_))) (fun h1 h2 => br_f (by decide) (hB ⟨⟨hv, hw, h1, hS, h2⟩, n1, n2⟩))
    obtain ⟨⟨_, _, g1, _, g2⟩, _, _⟩ := g
    rcases h with h | h
    · rw [h] at g1; exact absurd g1 (by decide)
    · rw [h] at g2; exact absurd g2 (by decide)
  have h16 : ¬ (nI v = bA ∧ nI w = bB) → wX_usable_16 (fun r => (r = 0 → A) ∧ (¬ r = 0 → B)) (nI v) (nI w) on am bA bB ev wt sh ed mt bs pr qu fm := by
    intro n1
    exact br_c (fun e1 => br_c (fun e2 => br_t rfl (hA (fun g => g.2.2 ⟨e1, e2⟩))) (fun e2 => h34 n1 (fun e => e2 e.2))) (fun e1 => h34 n1 (fun e => e1 e.1))
  exact br_c (fun e1 => br_c (fun e2 => br_t rfl (hA (fun g => g.2.1 ⟨e1, e2⟩))) (fun e2 => h16 (fun e => e2 e.2))) (fun e1 => h16 (fun e => e1 e.1))
variable {G : Nat → Nat → Prop} {m : Nat → Nat} {r : Nat} {q : List Nat} {p b : Nat → Nat}
theorem xs_cb81 (hm : mg_M G m) (A : sv_A G m r q p b) (rm : rp_m m mt) (rb : rp_b b bs) (rp : rp_p p pr) {post : Int32 → Prop} {seen : Int32} (hr : bt seen r = true) : ∀ (K : List Nat) (y i n : Nat), y ∈ q → b y = y → wk_W (fun a => b (p (m a))) y K r → K.length + i < 10 → K.length < n → (∀ L ρ, wk_W (fun a => b (p (m a))) y L ρ → (∀ c, c ∈ L → bt seen c = false) → bt seen ρ = true → ρ ∈ q → post (nI ρ)) → wX_commonBase_81 post seen on am bA bB ev wt sh ed mt bs pr qu fm n (nI y) (nI i) := by
  have h10 : ∀ x, x ∈ q → x < 10 := A.2.2.2.1
  intro K
  induction K with
  | nil =>
    intro y i n hy hb hW hi hn hpost
    obtain ⟨k, rfl⟩ : ∃ k, n = k + 1 := ⟨n - 1, by omega⟩
    have e : y = r := hW
    have hy10 := h10 y hy
    have hlen : i < 10 := by simp at hi; exact hi
    refine br_f (rd_i hlen) (xb_inX y rfl (by omega) (fun h => ?_) (fun h => hpost [] y rfl (fun c hc => by simp at hc) h hy))
    rw [e, hr] at h
    exact absurd h (by decide)
  | cons a t ih =>
    intro y i n hy hb hW hi hn hpost
    obtain ⟨k, rfl⟩ : ∃ k, n = k + 1 := ⟨n - 1, by omega⟩
    have hy10 := h10 y hy
    simp only [List.length_cons] at hi hn
    refine br_f (rd_i (by omega)) (xb_inX y rfl (by omega) (fun h => ?_) (fun h => hpost [] y rfl (fun c hc => by simp at hc) h hy))
    have hyr : y ≠ r := fun e => by rw [e, hr] at h; exact absurd h (by decide)
    obtain ⟨u1, u2, u3, u4, u5⟩ := sv_up hm A hy hb hyr
    have hmy : m y ≠ y := fun e => u1 (by rw [e]; exact hy)
    have hp10 := h10 _ u2
    have hm10 := (rm y hy10).1
    have e1 := rd_m rm hy10 hmy
    have e2 := rd_p rp hm10 hp10
    have e3 := rd_b rb hp10
    rw [e1, e2, e3]
    refine ⟨rd_v hy10, rd_v hm10, rd_v hp10, nm_e (nm_r (nI_1 i) (ih _ (i + 1) k u3 u4 hW.2 (by omega) (by omega) (fun L ρ h1 h2 h3 h4 => hpost (y :: L) ρ ⟨rfl, h1⟩ (fun c hc => ?_) h3 h4)))⟩
    rcases List.mem_cons.mp hc with e | hc
    · rw [e]; exact h
    · exact h2 c hc
theorem xs_cbx (rb : rp_b b bs) {post : Int32 → Prop} {w n i : Nat} (hw : w < 10) {seen : Int32} (H : ∃ n81, wX_commonBase_81 post seen on am bA bB ev wt sh ed mt bs pr qu fm n81 (nI (b w)) (nI 0)) : wX_commonBase_8 post (nI w) on am bA bB ev wt sh ed mt bs pr qu fm (n + 1) seen (-1) (nI i) := by
  have E : vp_in (nI w) 10 ∧ ∀ y : Int32, y = bs (nI w).toNatClampNeg → ∃ n81, wX_commonBase_81 post seen on am bA bB ev wt sh ed mt bs pr qu fm n81 y 0 := ⟨rd_v hw, nm_r (rd_b rb hw) H⟩
  exact br_c (fun _ => E) (fun _ => br_t rd_n1 E)
theorem xs_cb8 (hm : mg_M G m) (hmr : m r = r) (A : sv_A G m r q p b) (rm : rp_m m mt) (rb : rp_b b bs) (rp : rp_p p pr) {post : Int32 → Prop} {w : Nat} (hw : w < 10) : ∀ (K : List Nat) (x i n : Nat) (seen : Int32), x ∈ q → wk_W (fun a => b (p (m a))) (b x) K r → (∀ c, c ∈ K → c ≠ r) → K.length + i < 10 → K.length + 1 < n → (∀ seen', (∀ j, j < 10 → (bt seen' j = true ↔ (bt seen j = true ∨ j ∈ K ∨ j = r))) → ∃ n81, wX_commonBase_81 post seen' on am bA bB ev wt sh ed mt bs pr qu fm n81 (nI (b w)) (nI 0)) → wX_commonBase_8 post (nI w) on am bA bB ev wt sh ed mt bs pr qu fm n seen (nI x) (nI i) := by
  have h10 : ∀ x, x ∈ q → x < 10 := A.2.2.2.1
  have h6 : ∀ x, x ∈ q → b x ∈ q ∧ b (b x) = b x ∧ q.idxOf (b x) ≤ q.idxOf x := A.2.2.2.2.2.1
  intro K
  induction K with
  | nil =>
    intro x i n seen hx hW _ hi hn hk
    obtain ⟨k, rfl⟩ : ∃ k, n = k + 2 := ⟨n - 2, by simp at hn; omega⟩
    have e : b x = r := hW
    have hx10 := h10 x hx
    have hr10 := h10 _ (h6 x hx).1
    rw [e] at hr10
    have hi10 : i < 10 := by simp at hi; exact hi
    have e1 : bs (nI x).toNatClampNeg = nI r := by rw [rd_b rb hx10, e]
    have e2 := rd_m0 rm hr10 hmr
    refine br_f (rd_i hi10) (br_f (rd_x hx10) ⟨rd_v hx10, nm_r e1 (nm_e ⟨rd_v hr10, br_f (by rw [e2]; exact rd_n0) (nm_r (nI_1 i) (xs_cbx rb hw (hk _ (fun j hj => ?_))))⟩)⟩)
    rw [xb_set seen (by omega)]
    simp
  | cons a t ih =>
    intro x i n seen hx hW hn0 hi hn hk
    obtain ⟨k, rfl⟩ : ∃ k, n = k + 1 := ⟨n - 1, by omega⟩
    simp only [List.length_cons] at hi hn
    obtain ⟨e, hW2⟩ := hW
    obtain ⟨b1, b2, b3⟩ := h6 x hx
    have hbr : b x ≠ r := by rw [e]; exact hn0 a List.mem_cons_self
    obtain ⟨u1, u2, u3, u4, u5⟩ := sv_up hm A b1 b2 hbr
    have hx10 := h10 x hx
    have hb10 := h10 _ b1
    have hmb : m (b x) ≠ b x := fun e => u1 (by rw [e]; exact b1)
    have hm10 := (rm _ hb10).1
    have hp10 := h10 _ u2
    have e1 := rd_m rm hb10 hmb
    have e2 := rd_p rp hm10 hp10
    refine br_f (rd_i (by omega)) (br_f (rd_x hx10) ⟨rd_v hx10, nm_r (rd_b rb hx10) (nm_e ⟨rd_v hb10, ?_⟩)⟩)
    rw [e1]
    refine br_t (rd_g hm10) ⟨rd_v hb10, rd_v hm10, nm_r e2 (nm_r (nI_1 i) (ih _ (i + 1) k _ u2 hW2 (fun c hc => hn0 c (List.mem_cons_of_mem _ hc)) (by omega) (by omega) (fun seen' hs => hk seen' (fun j hj => ?_))))⟩
    rw [hs j hj, xb_set seen (by omega), List.mem_cons, e]
    simp only [Bool.or_eq_true, decide_eq_true_eq]
    constructor
    · rintro ((h | h) | h | h)
      · exact Or.inl h
      · exact Or.inr (Or.inl (Or.inl h))
      · exact Or.inr (Or.inl (Or.inr h))
      · exact Or.inr (Or.inr h)
    · rintro (h | (h | h) | h)
      · exact Or.inl (Or.inl h)
      · exact Or.inl (Or.inr h)
      · exact Or.inr (Or.inl h)
      · exact Or.inr (Or.inr h)
theorem xs_cb (hm : mg_M G m) (hmr : m r = r) (A : sv_A G m r q p b) (rm : rp_m m mt) (rb : rp_b b bs) (rp : rp_p p pr) {post : Int32 → Prop} {v w : Nat} (hv : v ∈ q) (hw : w ∈ q) (K : ∀ ρ Lv Lw, wk_W (fun a => b (p (m a))) (b v) Lv ρ → wk_W (fun a => b (p (m a))) (b w) Lw ρ → (∀ c, c ∈ Lv ++ Lw → c ≠ r) → (∀ c, c ∈ Lv → c ∉ Lw) → ρ ∈ q → post (nI ρ)) : wpX_commonBase post (on, am, bA, bB, ev, wt, sh, ed, mt, bs, pr, qu, fm) (nI v) (nI w) := by
  have h1 : q.Nodup := A.1
  have h10 : ∀ x, x ∈ q → x < 10 := A.2.2.2.1
  have h6 : ∀ x, x ∈ q → b x ∈ q ∧ b (b x) = b x ∧ q.idxOf (b x) ≤ q.idxOf x := A.2.2.2.2.2.1
  have hl := mc_ten h1 h10
  obtain ⟨Kv, v1, v2, v3⟩ := sv_chr hm A _ _ (h6 v hv).1 (h6 v hv).2.1 (Nat.le_refl _)
  obtain ⟨Kw, w1, w2, w3⟩ := sv_chr hm A _ _ (h6 w hw).1 (h6 w hw).2.1 (Nat.le_refl _)
  have iv := sv_il (h6 v hv).1
  have iw := sv_il (h6 w hw).1
  have hc := sv_ch hm A (h6 v hv).1 (h6 v hv).2.1 v1 v2
  have hcw := fun L ρ => sv_ch hm A (L := L) (γ := ρ) (h6 w hw).1 (h6 w hw).2.1
  refine ⟨Kv.length + 2, xs_cb8 hm hmr A rm rb rp (h10 w hw) Kv v 0 _ 0 hv v1 v2 (by omega) (by omega) (fun seen' hs => ⟨Kw.length + 1, ?_⟩)⟩
  have hr10 := h10 r A.2.1
  have hs' : ∀ j, j < 10 → (bt seen' j = true ↔ (j ∈ Kv ∨ j = r)) := by
    intro j hj
    rw [hs j hj, b_0]
    simp
  refine xs_cb81 hm A rm rb rp ((hs' r hr10).mpr (Or.inr rfl)) Kw (b w) 0 _ (h6 w hw).1 (h6 w hw).2.1 w1 (by omega) (by omega) (fun L ρ e1 e2 e3 e4 => ?_)
  have hLr : ∀ c, c ∈ L → c ≠ r := fun c hc e => by
    have := e2 c hc
    rw [e, (hs' r hr10).mpr (Or.inr rfl)] at this
    exact absurd this (by decide)
  have hL10 : ∀ c, c ∈ L → c < 10 := fun c hc => h10 c ((hcw L ρ e1 hLr).2.2.2 c hc).1
  have hdis : ∀ c, c ∈ Kv → c ∉ L := fun c hc hcl => by
    have := e2 c hcl
    rw [(hs' c (hL10 c hcl)).mpr (Or.inl hc)] at this
    exact absurd this (by decide)
  rcases (hs' ρ (h10 ρ e4)).mp e3 with h | h
  · obtain ⟨k1, k2, ek⟩ := List.append_of_mem h
    rw [ek] at v1
    refine K ρ k1 L (wk_at v1).1 e1 (fun c hc => ?_) (fun c hc => hdis c (by rw [ek]; exact List.mem_append_left _ hc)) e4
    rcases List.mem_append.mp hc with hc | hc
    · exact v2 c (by rw [ek]; exact List.mem_append_left _ hc)
    · exact hLr c hc
  · rw [← h] at v1
    refine K ρ Kv L v1 e1 (fun c hc => ?_) hdis e4
    rcases List.mem_append.mp hc with hc | hc
    · exact v2 c hc
    · exact hLr c hc
theorem xs_mark (rm : rp_m m mt) (rb : rp_b b bs) {post : SX → Prop} {ρ e : Nat} (hρ : ρ < 10) (he : e < 10) (hbe : b e = ρ) : ∀ (l : List Nat) (x c i n : Nat) (p : Nat → Nat) (sh : Int32) (pr : Nat → Int32), wk_W (fun a => p (m a)) x l e → (∀ a, a ∈ l → a < 10 ∧ m a ≠ a ∧ b a ≠ ρ ∧ b a < 10 ∧ b (m a) < 10 ∧ p (m a) < 10) → (∀ a, a ∈ l → ∀ c, c ∈ l → m a ≠ c) → c < 10 → l.length + i ≤ 10 → l.length < n → rp_p p pr → (∀ sh' pr', rp_p (sk_ov m p c l) pr' → (∀ j, j < 10 → (bt sh' j = true ↔ (bt sh j = true ∨ ∃ a, a ∈ l ∧ (j = b a ∨ j = b (m a))))) → post (on, am, bA, bB, ev, wt, sh', ed, mt, bs, pr', qu, fm)) → wX_markSide_9 post (nI ρ) on am bA bB ev wt n (nI x) (nI c) (nI i) sh ed mt bs pr qu fm := by
  intro l
  induction l with
  | nil =>
    intro x c i n p sh pr hW _ _ hc hi hn rp hpost
    obtain ⟨k, rfl⟩ : ∃ k, n = k + 1 := ⟨n - 1, by omega⟩
    have ex : x = e := hW
    subst ex
    have K := hpost sh pr rp (fun j hj => by simp)
    exact br_c (fun _ => K) (fun _ => ⟨rd_v he, br_t (by rw [rd_b rb he, hbe]) K⟩)
  | cons a t ih =>
    intro x c i n p sh pr hW hl hmf hc hi hn rp hpost
    obtain ⟨k, rfl⟩ : ∃ k, n = k + 1 := ⟨n - 1, by omega⟩
    simp only [List.length_cons] at hi hn
    obtain ⟨ex, hW2⟩ := hW
    subst ex
    obtain ⟨x10, x1, x2, x3, x4, x5⟩ := hl x List.mem_cons_self
    have hm10 := (rm x x10).1
    refine br_f (rd_i (by omega)) ⟨rd_v x10, br_f (by rw [rd_b rb x10]; exact rd_e x3 hρ x2) ?_⟩
    rw [rd_m rm x10 x1, rd_b rb x10, rd_b rb hm10, rd_c x10, rd_c hm10]
    have hu : upd pr x (nI c) (m x) = nI (p (m x)) := by rw [pk_un x1, rp _ hm10, if_pos x5]
    have hs : ∀ d, d ∈ t → (if m d = x then c else p (m d)) = p (m d) := fun d hd => if_neg (fun e => hmf d (List.mem_cons_of_mem _ hd) x List.mem_cons_self e)
    refine ⟨rd_v x10, rd_v x10, rd_v hm10, nm_e ⟨rd_v x10, nm_e ⟨rd_v x10, nm_e ⟨rd_v x10, rd_v hm10, nm_r hu (nm_r (nI_1 i) (ih (p (m x)) (m x) (i + 1) k (fun y => if y = x then c else p y) _ _ (wk_congr hW2 hs) (fun d hd => ?_) (fun d hd f hf => hmf d (List.mem_cons_of_mem _ hd) f (List.mem_cons_of_mem _ hf)) hm10 (by omega) (by omega) (rw_p rp hc) (fun sh' pr' k1 k2 => hpost sh' pr' k1 (fun j hj => ?_))))⟩⟩⟩⟩
    · obtain ⟨d1, d2, d3, d4, d5, d6⟩ := hl d (List.mem_cons_of_mem _ hd)
      refine ⟨d1, d2, d3, d4, d5, ?_⟩
      show (if m d = x then c else p (m d)) < 10
      rw [hs d hd]; exact d6
    · rw [k2 j hj, b_or, b_or, xb_one (by omega) (by omega), xb_one (by omega) (by omega)]
      simp only [Bool.or_eq_true, decide_eq_true_eq, List.mem_cons]
      constructor
      · rintro ((h | h | h) | ⟨d, h1, h2⟩)
        · exact Or.inl h
        · exact Or.inr ⟨x, Or.inl rfl, Or.inl h⟩
        · exact Or.inr ⟨x, Or.inl rfl, Or.inr h⟩
        · exact Or.inr ⟨d, Or.inr h1, h2⟩
      · rintro (h | ⟨d, h1 | h1, h2⟩)
        · exact Or.inl (Or.inl h)
        · rw [h1] at h2
          rcases h2 with h2 | h2
          · exact Or.inl (Or.inr (Or.inl h2))
          · exact Or.inl (Or.inr (Or.inr h2))
        · exact Or.inr ⟨d, h1, h2⟩
theorem xs_meet {post : SX → Prop} {x : Nat} (hx : x < 10) (hq : q.Nodup) (h10 : ∀ y, y ∈ q → y < 10) (re : rp_e q ev) (rq : rp_q q qu wt) (h1 : x ∈ q → post (on, am, bA, bB, ev, wt, sh, ed, mt, bs, pr, qu, fm)) (h2 : x ∉ q → ∀ ev' wt' qu', rp_e (q ++ [x]) ev' → rp_q (q ++ [x]) qu' wt' → post (on, am, bA, bB, ev', wt', sh, ed, mt, bs, pr, qu', fm)) : wpX_meetEven post (on, am, bA, bB, ev, wt, sh, ed, mt, bs, pr, qu, fm) (nI x) := by
  unfold wpX_meetEven
  dsimp only
  refine xb_inX x rfl (by omega) (fun h => ?_) (fun h => h1 ((re x).mp h))
  have hxq : x ∉ q := fun hh => by rw [(re x).mpr hh] at h; exact absurd h (by decide)
  have hl := mc_nine hq hx hxq h10
  have ew : wt = nI q.length := rq.1
  subst ew
  have hc : (nI q.length).toNatClampNeg = q.length := rd_c hl
  refine nm_e ⟨rd_v hl, nm_e (nm_r (nI_1 _) (h2 hxq _ _ _ (fun j => ?_) ⟨by simp, fun i y hy => ?_⟩))⟩
  · rw [xb_set ev (by omega)]
    have := re j
    simp only [Bool.or_eq_true, decide_eq_true_eq, List.mem_append, List.mem_singleton]
    rw [this]
  · rw [hc]
    by_cases hi : i < q.length
    · rw [List.getElem?_append_left hi] at hy
      rw [pk_un (by omega)]
      exact rq.2 i y hy
    · rw [List.getElem?_append_right (by omega)] at hy
      have hi2 : i - q.length = 0 := by
        by_cases e : i - q.length = 0
        · exact e
        · rw [List.getElem?_eq_none (by simp; omega)] at hy
          exact absurd hy (by simp)
      rw [hi2] at hy
      simp at hy
      have hi3 : i = q.length := by omega
      rw [hi3, pk_us, hy]
end
end
section
/-! ===== X: shrinking ===== -/
def sk_nl (kk : Nat → Bool) (q : List Nat) (j : Nat) : List Nat := (List.range j).filter (fun x => kk x && !decide (x ∈ q))
theorem sk_nl_mem {kk : Nat → Bool} {q : List Nat} {j x : Nat} : x ∈ sk_nl kk q j ↔ x < j ∧ kk x = true ∧ x ∉ q := by
  unfold sk_nl
  rw [List.mem_filter, List.mem_range]
  simp
theorem sk_nl_nd (kk : Nat → Bool) (q : List Nat) (j : Nat) : (sk_nl kk q j).Nodup := List.nodup_range.sublist List.filter_sublist
theorem sk_nl_1 {kk : Nat → Bool} {q : List Nat} {j : Nat} (h1 : kk j = true) (h2 : j ∉ q) : sk_nl kk q (j + 1) = sk_nl kk q j ++ [j] := by
  unfold sk_nl
  rw [List.range_succ, List.filter_append]
  simp [h1, h2]
theorem sk_nl_0 {kk : Nat → Bool} {q : List Nat} {j : Nat} (h : kk j = false ∨ j ∈ q) : sk_nl kk q (j + 1) = sk_nl kk q j := by
  unfold sk_nl
  rw [List.range_succ, List.filter_append]
  rcases h with h | h <;> simp [h]
section
variable {on am bA bB ev wt sh : Int32} {ed mt bs pr qu fm : Nat → Int32}
variable {G : Nat → Nat → Prop} {m : Nat → Nat} {r : Nat} {q : List Nat} {p b : Nat → Nat}
theorem xs_sh29 {post : SX → Prop} {ρ : Nat} {kk : Nat → Bool} (hρ : ρ < 10) (hb10 : ∀ x, x < 10 → b x < 10) (hk : ∀ x, x < 10 → kk x = true → bt am x = true) (hsh : ∀ x, x < 10 → (bt sh (b x) = true ↔ kk x = true)) (hq : q.Nodup) (hq10 : ∀ x, x ∈ q → x < 10)
    (K : ∀ ev' wt' bs' qu', rp_e (q ++ sk_nl kk q 10) ev' → rp_q (q ++ sk_nl kk q 10) qu' wt' → rp_b (fun x => if x < 10 ∧ kk x = true then ρ else b x) bs' → post (on, am, bA, bB, ev', wt', sh, ed, mt, bs', pr, qu', fm)) :
    ∀ (d j n : Nat) (ev wt : Int32) (bs qu : Nat → Int32), j + d = 10 → d < n → rp_e (q ++ sk_nl kk q j) ev → rp_q (q ++ sk_nl kk q j) qu wt → rp_b (fun x => if x < j ∧ kk x = true then ρ else b x) bs → wX_shrink_29 post (nI ρ) n (nI j) on am bA bB ev wt sh ed mt bs pr qu fm := by
  intro d
  induction d with
  | zero =>
    intro j n ev wt bs qu hj hn re rq rb
    obtain ⟨k, rfl⟩ : ∃ k, n = k + 1 := ⟨n - 1, by omega⟩
    have e : j = 10 := by omega
    subst e
    exact br_t (by decide) (K ev wt bs qu re rq rb)
  | succ d ih =>
    intro j n ev wt bs qu hj hn re rq rb
    obtain ⟨k, rfl⟩ : ∃ k, n = k + 1 := ⟨n - 1, by omega⟩
    have j10 : j < 10 := by omega
    have same : kk j = false → wX_shrink_29 post (nI ρ) k (nI (j + 1)) on am bA bB ev wt sh ed mt bs pr qu fm := by
      intro hkj
      have e := sk_nl_0 (q := q) (Or.inl hkj)
      refine ih (j + 1) k ev wt bs qu (by omega) (by omega) (by rw [e]; exact re) (by rw [e]; exact rq) (rw_b rb (fun x hx => ?_))
      by_cases ex : x = j
      · subst ex; simp [hkj]
      · have : (x < j + 1 ∧ kk x = true) ↔ (x < j ∧ kk x = true) := by
          constructor <;> rintro ⟨h1, h2⟩ <;> exact ⟨by omega, h2⟩
        simp only [this]
    have ebj : bs (nI j).toNatClampNeg = nI (b j) := by
      rw [rd_b rb j10]
      simp
    refine br_f (rd_i j10) (xb_inX j rfl (by omega) (fun h => nm_r (nI_1 j) (same ?_)) (fun h => ⟨rd_v j10, xb_inX (b j) ebj (by have := hb10 j j10; omega) (fun h2 => nm_r (nI_1 j) (same ?_)) (fun h2 => ⟨rd_v j10, ?_⟩)⟩))
    · cases hkj : kk j
      · rfl
      · rw [hk j j10 hkj] at h; exact absurd h (by decide)
    · cases hkj : kk j
      · rfl
      · rw [(hsh j j10).mpr hkj] at h2; exact absurd h2 (by decide)
    · have hkj := (hsh j j10).mp h2
      rw [rd_c j10]
      have rb' : rp_b (fun x => if x < j + 1 ∧ kk x = true then ρ else b x) (upd bs j (nI ρ)) := by
        intro x hx
        by_cases ex : x = j
        · subst ex; rw [pk_us]; simp [hkj]
        · rw [pk_un ex, rb x hx]
          have : (x < j + 1 ∧ kk x = true) ↔ (x < j ∧ kk x = true) := by
            constructor <;> rintro ⟨h1, h2⟩ <;> exact ⟨by omega, h2⟩
          simp only [this]
      have hnd : (q ++ sk_nl kk q j).Nodup := by
        rw [List.nodup_append]
        exact ⟨hq, sk_nl_nd kk q j, fun x hx y hy e => (sk_nl_mem.mp hy).2.2 (e ▸ hx)⟩
      have h10' : ∀ y, y ∈ q ++ sk_nl kk q j → y < 10 := by
        intro y hy
        rcases List.mem_append.mp hy with h | h
        · exact hq10 y h
        · have := (sk_nl_mem.mp h).1; omega
      refine nm_e (xs_meet j10 hnd h10' re rq (fun hin => ?_) (fun hnin ev' wt' qu' re' rq' => ?_))
      · have hjq : j ∈ q := by
          rcases List.mem_append.mp hin with h | h
          · exact h
          · have := (sk_nl_mem.mp h).1; omega
        have e := sk_nl_0 (kk := kk) (Or.inr hjq)
        exact nm_r (nI_1 j) (ih (j + 1) k ev wt _ qu (by omega) (by omega) (by rw [e]; exact re) (by rw [e]; exact rq) rb')
      · have hjq : j ∉ q := fun h => hnin (List.mem_append_left _ h)
        have e := sk_nl_1 hkj hjq
        exact nm_r (nI_1 j) (ih (j + 1) k ev' wt' _ qu' (by omega) (by omega) (by rw [e, ← List.append_assoc]; exact re') (by rw [e, ← List.append_assoc]; exact rq') rb')
def sx_R (G : Nat → Nat → Prop) (m : Nat → Nat) (r : Nat) (q : List Nat) (p b : Nat → Nat) (ev wt : Int32) (bs pr qu : Nat → Int32) : Prop := sv_A G m r q p b ∧ rp_e q ev ∧ rp_q q qu wt ∧ rp_b b bs ∧ rp_p p pr
theorem xs_shrink (hG : mg_G G) (hm : mg_M G m) (hmr : m r = r) (rm : rp_m m mt) (hGS : ∀ x y, G x y → bt am x = true) (hrS : bt am r = true) {post : SX → Prop} {v w i j : Nat} (R : sx_R G m r q p b ev wt bs pr qu) (hv : v ∈ q) (hw : w ∈ q) (hg : G v w) (hi : i < q.length) (S : sv_S G q p b i j)
    (K : ∀ n p' b' ev' wt' sh' bs' pr' qu', sx_R G m r (q ++ n) p' b' ev' wt' bs' pr' qu' → sv_S G (q ++ n) p' b' i j → b' v = b' w → post (on, am, bA, bB, ev', wt', sh', ed, mt, bs', pr', qu', fm)) : wpX_shrink post (on, am, bA, bB, ev, wt, sh, ed, mt, bs, pr, qu, fm) (nI v) (nI w) := by
  obtain ⟨A, re, rq, rb, rp⟩ := R
  unfold wpX_shrink
  dsimp only
  refine xs_cb hm hmr A rm rb rp hv hw (fun ρ Lv Lw c1 c2 c3 c4 hρ => ?_)
  obtain ⟨lv, ev0, sv, gv⟩ := sv_goE hm hmr A hv c1 (fun c hc => c3 c (List.mem_append_left _ hc))
  obtain ⟨lw, ew0, sw, gw⟩ := sv_goE hm hmr A hw c2 (fun c hc => c3 c (List.mem_append_right _ hc))
  have D : sk_D G m r q p b ρ v w Lv Lw lv lw sv sw ev0 ew0 := ⟨hv, hw, hg, c1, c2, c3, c4, gv, gw⟩
  obtain ⟨⟨r1, r2⟩, hL⟩ := sk_L hm A D
  obtain ⟨nv1, nv2⟩ := sk_nd hm A D
  obtain ⟨nw1, nw2⟩ := sk_nd hm A (sk_D_sym hG D)
  have hbr := sv_br A
  have hmm := fun x => sv_mm hm hmr A (x := x)
  have hA := A
  obtain ⟨a1, a2, a3, a4, a5, a6, a7, a8, a9, a10, a11, a12, a13⟩ := A
  have gv' := gv
  have gw' := gw
  obtain ⟨g1, g2, g3, g4, g5, g6, g7, g8, g9⟩ := gv'
  obtain ⟨h1, h2, h3, h4, h5, h6, h7, h8, h9⟩ := gw'
  have hρ10 := a4 ρ hρ
  have hρL : ρ ∉ Lv ++ Lw := fun h => by have := (hL ρ h).2.2.2.1; omega
  have hb10 : ∀ x, x < 10 → b x < 10 := by
    intro x hx
    by_cases e : x ∈ q
    · exact a4 _ (a6 x e).1
    · rw [a7 x e]; exact hx
  have hq1 : ∀ x, x ∈ q → x ≠ r → m x ≠ x ∧ m x < 10 ∧ p (m x) < 10 := by
    intro x hx hr
    have h := a5 x hx hr
    refine ⟨h, (hG _ _ (hm.2 x h)).2.2.1, ?_⟩
    rcases (sv_even hm hmr hA x).mp hx with e | e
    · exact absurd e hr
    · exact e.2
  have hel : ∀ (L l : List Nat), (∀ c, c ∈ L → c ∈ Lv ++ Lw) → (∀ a, a ∈ l → a ∈ q ∧ b a ∈ L) → ∀ a, a ∈ l → a < 10 ∧ m a ≠ a ∧ b a ≠ ρ ∧ b a < 10 ∧ b (m a) < 10 ∧ p (m a) < 10 := by
    intro L l hLL hl a ha
    obtain ⟨i1, i2⟩ := hl a ha
    have hbL := hLL _ i2
    have har : a ≠ r := fun e => by rw [e, hbr] at hbL; exact (hL r hbL).2.2.2.2 rfl
    obtain ⟨k1, k2, k3⟩ := hq1 a i1 har
    have hbρ : b a ≠ ρ := fun e => hρL (e ▸ hbL)
    exact ⟨a4 a i1, k1, hbρ, hb10 a (a4 a i1), hb10 _ k2, k3⟩
  have inl : ∀ c, c ∈ Lv → c ∈ Lv ++ Lw := fun c hc => List.mem_append_left _ hc
  have inr : ∀ c, c ∈ Lw → c ∈ Lv ++ Lw := fun c hc => List.mem_append_right _ hc
  have helv := hel Lv lv inl g5
  have helw := hel Lw lw inr h5
  have hlv10 := mc_ten nv1 (fun x hx => (helv x hx).1)
  have hlw10 := mc_ten nw1 (fun x hx => (helw x hx).1)
  have hmlv : ∀ a, a ∈ lw → m a ∉ lv := by
    intro a ha h
    obtain ⟨i1, i2⟩ := g5 _ h
    obtain ⟨j1, j2⟩ := h5 a ha
    rw [(hmm a j1 i1).1] at i2
    exact c4 _ i2 j2
  refine ⟨lv.length + 1, xs_mark rm rb hρ10 (a4 _ g3) g4 lv v w 0 _ p 0 pr g1 helv (fun a ha c hc => g9 a (List.mem_append_left _ ha) c (List.mem_append_left _ hc)) (a4 w hw) (by omega) (by omega) rp (fun sh1 pr1 k1 k2 => ?_)⟩
  dsimp only
  refine ⟨lw.length + 1, xs_mark rm rb hρ10 (a4 _ h3) h4 lw w v 0 _ (sk_ov m p w lv) sh1 pr1 (wk_congr h1 (fun a ha => sk_ov_n (hmlv a ha))) (fun a ha => ?_) (fun a ha c hc => h9 a (List.mem_append_left _ ha) c (List.mem_append_left _ hc)) (a4 v hv) (by omega) (by omega) k1 (fun sh2 pr2 k3 k4 => ?_)⟩
  · rw [sk_ov_n (hmlv a ha)]
    exact helw a ha
  dsimp only
  have hbits : ∀ j, j < 10 → (bt sh2 j = true ↔ ∃ a, a ∈ lv ++ lw ∧ (j = b a ∨ j = b (m a))) := by
    intro j hj
    rw [k4 j hj, k2 j hj, b_0]
    constructor
    · rintro ((h | ⟨a, h1, h2⟩) | ⟨a, h1, h2⟩)
      · exact absurd h (by decide)
      · exact ⟨a, List.mem_append_left _ h1, h2⟩
      · exact ⟨a, List.mem_append_right _ h1, h2⟩
    · rintro ⟨a, h1, h2⟩
      rcases List.mem_append.mp h1 with h1 | h1
      · exact Or.inl (Or.inr ⟨a, h1, h2⟩)
      · exact Or.inr ⟨a, h1, h2⟩
  have hll : ∀ a, a ∈ lv ++ lw → a ∈ q ∧ b a ∈ Lv ++ Lw := by
    intro a ha
    rcases List.mem_append.mp ha with h | h
    · exact ⟨(g5 a h).1, inl _ (g5 a h).2⟩
    · exact ⟨(h5 a h).1, inr _ (h5 a h).2⟩
  have hLl : ∀ c, c ∈ Lv ++ Lw → c ∈ lv ++ lw := by
    intro c hc
    rcases List.mem_append.mp hc with h | h
    · exact List.mem_append_left _ (g6 c h)
    · exact List.mem_append_right _ (h6 c h)
  have hKq : ∀ x, b x ∈ Lv ++ Lw → x ∈ q := by
    intro x hx
    by_cases e : x ∈ q
    · exact e
    · rw [a7 x e] at hx; exact (hL x hx).1
  have hHx : ∀ x, m x ∈ Lv ++ Lw → x ∉ q ∧ x < 10 ∧ bt am x = true := by
    intro x hx
    obtain ⟨i1, i2, i3, i4, i5⟩ := hL _ hx
    have hg2 := hm.2 _ (hq1 _ i1 i5).1
    rw [hm.1] at i3 hg2
    exact ⟨i3, (hG _ _ hg2).2.2.1, hGS _ _ (hG _ _ hg2).1⟩
  have hsh : ∀ x, x < 10 → (bt sh2 (b x) = true ↔ decide (b x ∈ Lv ++ Lw ∨ m x ∈ Lv ++ Lw) = true) := by
    intro x hx
    rw [hbits _ (hb10 x hx), decide_eq_true_eq]
    constructor
    · rintro ⟨a, i1, i2⟩
      obtain ⟨j1, j2⟩ := hll a i1
      rcases i2 with i2 | i2
      · exact Or.inl (by rw [i2]; exact j2)
      · by_cases e : b a = a
        · have har : a ≠ r := fun e2 => by rw [e2, hbr] at j2; exact (hL r j2).2.2.2.2 rfl
          have hma := (a10 a j1 har e).1
          rw [a7 _ hma] at i2
          have hxq : x ∉ q := fun hx => hma (by rw [← i2]; exact (a6 x hx).1)
          rw [a7 x hxq] at i2
          refine Or.inr ?_
          rw [i2, hm.1, ← e]; exact j2
        · exact Or.inl (by rw [i2, (a8 a j1 e).2]; exact j2)
    · rintro (h | h)
      · exact ⟨b x, hLl _ h, Or.inl (hL _ h).2.1.symm⟩
      · exact ⟨m x, hLl _ h, Or.inr (by rw [hm.1])⟩
  have hk : ∀ x, x < 10 → decide (b x ∈ Lv ++ Lw ∨ m x ∈ Lv ++ Lw) = true → bt am x = true := by
    intro x hx h
    rcases of_decide_eq_true h with h | h
    · have hxq := hKq x h
      by_cases e : x = r
      · rw [e]; exact hrS
      · exact hGS _ _ (hm.2 x (hq1 x hxq e).1)
    · exact (hHx x h).2.2
  have hk10 : ∀ x, (b x ∈ Lv ++ Lw ∨ m x ∈ Lv ++ Lw) → x < 10 := by
    intro x h
    rcases h with h | h
    · exact a4 x (hKq x h)
    · exact (hHx x h).2.1
  have hn2 : ∀ x, x ∈ sk_nl (fun x => decide (b x ∈ Lv ++ Lw ∨ m x ∈ Lv ++ Lw)) q 10 ↔ m x ∈ Lv ++ Lw := by
    intro x
    rw [sk_nl_mem, decide_eq_true_eq]
    constructor
    · rintro ⟨i1, i2 | i2, i3⟩
      · exact absurd (hKq x i2) i3
      · exact i2
    · intro h
      exact ⟨(hHx x h).2.1, Or.inr h, (hHx x h).1⟩
  have hb1 : ∀ x, (b x ∈ Lv ++ Lw ∨ m x ∈ Lv ++ Lw) → (if x < 10 ∧ decide (b x ∈ Lv ++ Lw ∨ m x ∈ Lv ++ Lw) = true then ρ else b x) = ρ := fun x h => if_pos ⟨hk10 x h, decide_eq_true h⟩
  have hb2 : ∀ x, ¬ (b x ∈ Lv ++ Lw ∨ m x ∈ Lv ++ Lw) → (if x < 10 ∧ decide (b x ∈ Lv ++ Lw ∨ m x ∈ Lv ++ Lw) = true then ρ else b x) = b x := fun x h => if_neg (fun e => h (of_decide_eq_true e.2))
  have hp1 : ∀ x, x ∉ lw → sk_ov m (sk_ov m p w lv) v lw x = sk_ov m p w lv x := fun x hx => sk_ov_n hx
  have hp2 : ∀ x, x ∉ lv → sk_ov m (sk_ov m p w lv) v lw x = sk_ov m p v lw x := by
    intro x hx
    by_cases e : x ∈ lw
    · obtain ⟨s1, s2, es⟩ := List.append_of_mem e
      rw [es] at nw1 ⊢
      rw [sk_ov_a nw1, sk_ov_a nw1]
    · rw [sk_ov_n e, sk_ov_n e, sk_ov_n hx]
  refine ⟨11, xs_sh29 (kk := fun x => decide (b x ∈ Lv ++ Lw ∨ m x ∈ Lv ++ Lw)) hρ10 hb10 hk hsh a1 a4 (fun ev' wt' bs' qu' e1 e2 e3 => ?_) 10 0 11 ev wt bs qu rfl (by decide) ?_ ?_ ?_⟩
  · have hA' := sk_after hG hm hmr hA D hp1 hp2 (sk_nl_nd _ _ _) hn2 hb1 hb2
    obtain ⟨s1, s2, s3⟩ := sk_scan hG hm hA D hp1 hn2 hb1 hb2 hi S
    exact K _ _ _ _ _ _ _ _ _ ⟨hA', e1, e2, e3, k3⟩ s1 (s2.trans s3.symm)
  · have : q ++ sk_nl (fun x => decide (b x ∈ Lv ++ Lw ∨ m x ∈ Lv ++ Lw)) q 0 = q := List.append_nil q
    rw [this]; exact re
  · have : q ++ sk_nl (fun x => decide (b x ∈ Lv ++ Lw ∨ m x ∈ Lv ++ Lw)) q 0 = q := List.append_nil q
    rw [this]; exact rq
  · exact rw_b rb (fun x hx => by simp)
end
end
section
/-! ===== X: look, search ===== -/
section
variable {on am bA bB ev wt sh : Int32} {ed mt bs pr qu fm : Nat → Int32}
variable {G : Nat → Nat → Prop} {m : Nat → Nat} {r : Nat} {q : List Nat} {p b : Nat → Nat}
theorem xs_look (hG : mg_G G) (hm : mg_M G m) (hmr : m r = r) (rm : rp_m m mt) (hGS : ∀ x y, G x y → bt am x = true) (hrS : bt am r = true) {post : Int32 → SX → Prop} {v w i : Nat} (R : sx_R G m r q p b ev wt bs pr qu) (S : sv_S G q p b i w) (hv : v ∈ q) (hvi : q.idxOf v = i) (hg : G v w)
    (K1 : ∀ q' p' b' ev' wt' sh' bs' pr' qu', sx_R G m r q' p' b' ev' wt' bs' pr' qu' → sv_S G q' p' b' i (w + 1) → v ∈ q' → q'.idxOf v = i → post (-1) (on, am, bA, bB, ev', wt', sh', ed, mt, bs', pr', qu', fm))
    (K2 : w ∉ q → m w = w → w ≠ r → ∀ pr', rp_p (fun x => if x = w then v else p x) pr' → post (nI w) (on, am, bA, bB, ev, wt, sh, ed, mt, bs, pr', qu, fm)) : wpX_look post (on, am, bA, bB, ev, wt, sh, ed, mt, bs, pr, qu, fm) (nI v) (nI w) (nI r) := by
  have R' := R
  obtain ⟨A, re, rq, rb, rp⟩ := R
  have hev := sv_even hm hmr A w
  have hmm := fun x => sv_mm hm hmr A (x := x)
  have hA := A
  obtain ⟨a1, a2, a3, a4, a5, a6, a7, a8, a9, a10, a11, a12, a13⟩ := A
  have hv10 := a4 v hv
  have hw10 := (hG _ _ hg).2.2.1
  have hr10 := a4 r a2
  have hi : i < q.length := by rw [← hvi]; exact sv_il hv
  have hmw10 := (rm w hw10).1
  have hb10 : ∀ x, x < 10 → b x < 10 := by
    intro x hx
    by_cases e : x ∈ q
    · exact a4 _ (a6 x e).1
    · rw [a7 x e]; exact hx
  have stay : ((w ∉ q ∧ p w < 10) ∨ (w ∈ q ∧ b v = b w)) → post (-1) (on, am, bA, bB, ev, wt, sh, ed, mt, bs, pr, qu, fm) := fun h => K1 q p b ev wt sh bs pr qu R' (sv_next hG hA hv hvi S (fun _ => h)) hv hvi
  have L55 : w ∈ q → wX_look_55 post (nI v) (nI w) on am bA bB ev wt sh ed mt bs pr qu fm := by
    intro hw
    refine br_f (by decide) (xs_shrink hG hm hmr rm hGS hrS R' hv hw hg hi S (fun n p' b' ev' wt' sh' bs' pr' qu' r1 r2 r3 => ?_))
    have hv' : v ∈ q ++ n := List.mem_append_left _ hv
    have hvi' : (q ++ n).idxOf v = i := by rw [sv_ia hv]; exact hvi
    exact K1 _ _ _ _ _ _ _ _ _ r1 (sv_next hG r1.1 hv' hvi' r2 (fun _ => Or.inr ⟨List.mem_append_left _ hw, r3⟩)) hv' hvi'
  have L59 : w ∉ q → wX_look_59 post (nI v) (nI w) on am bA bB ev wt sh ed mt bs pr qu fm := by
    intro hw
    refine br_t rfl ⟨rd_v hw10, ?_⟩
    by_cases hp : p w < 10
    · refine br_f (by rw [rd_p rp hw10 hp]; exact rd_x hp) (stay (Or.inl ⟨hw, hp⟩))
    · refine br_t (by rw [rd_p0 rp hw10 hp]; exact rd_n1) ⟨rd_v hw10, ?_⟩
      rw [rd_c hw10]
      refine nm_e ⟨rd_v hw10, ?_⟩
      have rp' := rw_p rp (x := w) hv10
      by_cases hmw : m w = w
      · rw [(rm w hw10).2, if_pos hmw]
        exact br_f rd_n0 (K2 hw hmw (fun e => hw (e ▸ a2)) _ rp')
      · rw [(rm w hw10).2, if_neg hmw]
        obtain ⟨g1, g2, g3⟩ := sv_grow hG hm hmr hA hv hg hw hp hmw
        refine br_t (rd_g hmw10) ⟨rd_v hw10, xs_meet hmw10 a1 a4 re rq (fun h => absurd h g1) (fun _ ev' wt' qu' e1 e2 => ?_)⟩
        have hpm : ¬ p (m w) < 10 := fun h => hw (by
          have := (a9 _ g1 h).2.1
          rw [hm.1] at this
          exact this)
        have hS := sv_growS hG hA hw hp hv10 g1 hpm hi S
        have hv' : v ∈ q ++ [m w] := List.mem_append_left _ hv
        have hvi' : (q ++ [m w]).idxOf v = i := by rw [sv_ia hv]; exact hvi
        refine K1 _ _ _ _ _ _ _ _ _ ⟨g3, e1, e2, rb, rp'⟩ (sv_next hG g3 hv' hvi' hS (fun _ => Or.inl ⟨fun h => ?_, ?_⟩)) hv' hvi'
        · rcases List.mem_append.mp h with h | h
          · exact hw h
          · simp at h; exact hmw h.symm
        · show (if w = w then v else p w) < 10
          rw [if_pos rfl]; exact hv10
  refine ⟨rd_v hv10, rd_v hw10, ?_⟩
  rw [rd_b rb hv10, rd_b rb hw10]
  by_cases hbb : b v = b w
  · refine br_t (by rw [hbb]) (stay (Or.inr ⟨?_, hbb⟩))
    by_cases e : w ∈ q
    · exact e
    · rw [a7 w e] at hbb
      exact absurd (by rw [← hbb]; exact (a6 v hv).1) e
  refine br_f (rd_e (hb10 v hv10) (hb10 w hw10) hbb) ⟨rd_v hv10, ?_⟩
  by_cases hmv : m v = w
  · have hne : m v ≠ v := by rw [hmv]; exact Ne.symm (hG _ _ hg).2.2.2
    refine br_t (by rw [rd_m rm hv10 hne, hmv]) (stay ?_)
    by_cases e : w ∈ q
    · exact Or.inr ⟨e, by rw [← hmv] at e ⊢; exact (hmm v hv e).1.symm⟩
    · have hvr : v ≠ r := fun e2 => hne (by rw [e2]; exact hmr)
      have hbv : b v = v := by
        by_cases e2 : b v = v
        · exact e2
        · exact absurd (by rw [← hmv]; exact (a8 v hv e2).1) e
      exact Or.inl ⟨e, by rw [← hmv]; exact (a10 v hv hvr hbv).2⟩
  refine br_f ?_ ?_
  · by_cases e : m v = v
    · rw [rd_m0 rm hv10 e]; exact Ne.symm (xb_ne hw10)
    · rw [rd_m rm hv10 e]; exact rd_e (rm v hv10).1 hw10 hmv
  refine pk_eq w r (fun e => L55 (hev.mpr (Or.inl e))) (fun hwr => ⟨rd_v hw10, ?_⟩)
  by_cases hmw : m w = w
  · rw [rd_m0 rm hw10 hmw]
    refine br_t rd_n1 (L59 (fun h => ?_))
    rcases hev.mp h with h | h
    · exact hwr h
    · exact h.1 hmw
  · rw [rd_m rm hw10 hmw]
    refine br_f (rd_x hmw10) ⟨rd_v hw10, rd_v hmw10, ?_⟩
    by_cases hp : p (m w) < 10
    · rw [rd_p rp hmw10 hp]
      exact br_f (rd_x hp) (L55 (hev.mpr (Or.inr ⟨hmw, hp⟩)))
    · rw [rd_p0 rp hmw10 hp]
      refine br_t rd_n1 (L59 (fun h => ?_))
      rcases hev.mp h with h | h
      · exact hwr h
      · exact hp h.2
/-- a way's end was found -/
def sx_E (G : Nat → Nat → Prop) (m : Nat → Nat) (r w : Nat) (pr : Nat → Int32) : Prop := ∃ q p b v, sv_A G m r q p b ∧ v ∈ q ∧ w ∉ q ∧ m w = w ∧ w ≠ r ∧ G v w ∧ rp_p (fun x => if x = w then v else p x) pr
theorem xs_s63 (hW : gr_W ed) (hm : mg_M (gr_B ed am bA bB) m) (hmr : m r = r) (rm : rp_m m mt) (hrS : bt am r = true) {post : Int32 → SX → Prop} {J : Int32 → Int32 → Int32 → Int32 → Int32 → Int32 → Int32 → Int32 → (Nat → Int32) → (Nat → Int32) → (Nat → Int32) → (Nat → Int32) → (Nat → Int32) → (Nat → Int32) → Prop} {v i : Nat}
    (HJ : ∀ q p b ev wt sh bs pr qu, sx_R (gr_B ed am bA bB) m r q p b ev wt bs pr qu → sv_S (gr_B ed am bA bB) q p b i 10 → v ∈ q → q.idxOf v = i → J (nI (i + 1)) on am bA bB ev wt sh ed mt bs pr qu fm)
    (K2 : ∀ w ev wt sh bs pr qu, w < 10 → sx_E (gr_B ed am bA bB) m r w pr → post (nI w) (on, am, bA, bB, ev, wt, sh, ed, mt, bs, pr, qu, fm)) :
    ∀ (d j n : Nat) (q : List Nat) (p b : Nat → Nat) (ev wt sh : Int32) (bs pr qu : Nat → Int32), j + d = 10 → d < n → sx_R (gr_B ed am bA bB) m r q p b ev wt bs pr qu → sv_S (gr_B ed am bA bB) q p b i j → v ∈ q → q.idxOf v = i → wX_search_63 post J (nI r) (nI i) (nI v) n (nI j) on am bA bB ev wt sh ed mt bs pr qu fm := by
  have hG := gr_BG hW am bA bB
  have hGS : ∀ x y, gr_B ed am bA bB x y → bt am x = true := fun x y h => h.1.2.2.2.1
  intro d
  induction d with
  | zero =>
    intro j n q p b ev wt sh bs pr qu hj hn R S hv hvi
    obtain ⟨k, rfl⟩ : ∃ k, n = k + 1 := ⟨n - 1, by omega⟩
    have e : j = 10 := by omega
    subst e
    exact br_t (by decide) (nm_r (nI_1 i) (HJ q p b ev wt sh bs pr qu R S hv hvi))
  | succ d ih =>
    intro j n q p b ev wt sh bs pr qu hj hn R S hv hvi
    obtain ⟨k, rfl⟩ : ∃ k, n = k + 1 := ⟨n - 1, by omega⟩
    have j10 : j < 10 := by omega
    have hv10 := R.1.2.2.2.1 v hv
    have hvS : bt am v = true := by
      by_cases e : v = r
      · rw [e]; exact hrS
      · exact hGS _ _ (hm.2 v (R.1.2.2.2.2.1 v hv e))
    refine br_f (rd_i j10) (xs_usable hv10 j10 hvS (fun hng => ?_) (fun hg => ?_))
    · exact br_t rd_n1 (nm_r (nI_1 j) (ih (j + 1) k q p b ev wt sh bs pr qu (by omega) (by omega) R (sv_next hG R.1 hv hvi S (fun h => absurd h hng)) hv hvi))
    · refine xs_look hG hm hmr rm hGS hrS R S hv hvi hg (fun q' p' b' ev' wt' sh' bs' pr' qu' r1 r2 r3 r4 => ?_) (fun h1 h2 h3 pr' h4 => ?_)
      · exact br_t rd_n1 (nm_r (nI_1 j) (ih (j + 1) k q' p' b' ev' wt' sh' bs' pr' qu' (by omega) (by omega) r1 r2 r3 r4))
      · exact br_f (rd_x j10) (K2 j _ _ _ _ _ _ j10 ⟨q, p, b, v, R.1, hv, h1, h2, h3, hg, h4⟩)
theorem xs_s45 (hW : gr_W ed) (hm : mg_M (gr_B ed am bA bB) m) (hmr : m r = r) (rm : rp_m m mt) (hrS : bt am r = true) {post : Int32 → SX → Prop}
    (K1 : ∀ q p b ev wt sh bs pr qu, sx_R (gr_B ed am bA bB) m r q p b ev wt bs pr qu → sv_S (gr_B ed am bA bB) q p b q.length 0 → post (-1) (on, am, bA, bB, ev, wt, sh, ed, mt, bs, pr, qu, fm))
    (K2 : ∀ w ev wt sh bs pr qu, w < 10 → sx_E (gr_B ed am bA bB) m r w pr → post (nI w) (on, am, bA, bB, ev, wt, sh, ed, mt, bs, pr, qu, fm)) :
    ∀ (d i n : Nat) (q : List Nat) (p b : Nat → Nat) (ev wt sh : Int32) (bs pr qu : Nat → Int32), i + d = 10 → d < n → sx_R (gr_B ed am bA bB) m r q p b ev wt bs pr qu → sv_S (gr_B ed am bA bB) q p b i 0 → i ≤ q.length → wX_search_45 post (nI r) n (nI i) on am bA bB ev wt sh ed mt bs pr qu fm := by
  have hG := gr_BG hW am bA bB
  intro d
  induction d with
  | zero =>
    intro i n q p b ev wt sh bs pr qu hi hn R S hiq
    obtain ⟨k, rfl⟩ : ∃ k, n = k + 1 := ⟨n - 1, by omega⟩
    have hl := mc_ten R.1.1 R.1.2.2.2.1
    have e : i = q.length := by omega
    have ew : wt = nI q.length := R.2.2.1.1
    refine br_t (by rw [ew, e]; exact nI_le (Nat.le_refl _) (by omega)) (K1 q p b ev wt sh bs pr qu R (by rw [← e]; exact S))
  | succ d ih =>
    intro i n q p b ev wt sh bs pr qu hi hn R S hiq
    obtain ⟨k, rfl⟩ : ∃ k, n = k + 1 := ⟨n - 1, by omega⟩
    have hl := mc_ten R.1.1 R.1.2.2.2.1
    have ew : wt = nI q.length := R.2.2.1.1
    refine pk_le q.length i (fun h => ?_) (fun h => ⟨rd_v (by omega), ?_⟩) ew
    · have e : i = q.length := by omega
      exact K1 q p b ev wt sh bs pr qu R (by rw [← e]; exact S)
    · have e1 : q[i]? = some q[i] := List.getElem?_eq_getElem h
      have e2 : qu (nI i).toNatClampNeg = nI q[i] := by rw [rd_c (by omega)]; exact R.2.2.1.2 i _ e1
      have hv : q[i] ∈ q := List.getElem_mem h
      have hvi : q.idxOf q[i] = i := List.Nodup.idxOf_getElem R.1.1 i h
      refine nm_r e2 ⟨11, xs_s63 hW hm hmr rm hrS (fun q' p' b' ev' wt' sh' bs' pr' qu' r1 r2 r3 r4 => ?_) K2 10 0 11 q p b ev wt sh bs pr qu rfl (by decide) R S hv hvi⟩
      exact ih (i + 1) k q' p' b' ev' wt' sh' bs' pr' qu' (by omega) (by omega) r1 (sv_nexti hG r2) (by have := sv_il r3; omega)
theorem xs_search (hW : gr_W ed) (hm : mg_M (gr_B ed am bA bB) m) (hr : r < 10) (hmr : m r = r) (rm : rp_m m mt) (hrS : bt am r = true) {post : Int32 → SX → Prop}
    (K1 : ∀ q p b ev wt sh bs pr qu, sx_R (gr_B ed am bA bB) m r q p b ev wt bs pr qu → sv_S (gr_B ed am bA bB) q p b q.length 0 → post (-1) (on, am, bA, bB, ev, wt, sh, ed, mt, bs, pr, qu, fm))
    (K2 : ∀ w ev wt sh bs pr qu, w < 10 → sx_E (gr_B ed am bA bB) m r w pr → post (nI w) (on, am, bA, bB, ev, wt, sh, ed, mt, bs, pr, qu, fm)) : wpX_search post (on, am, bA, bB, ev, wt, sh, ed, mt, bs, pr, qu, fm) (nI r) := by
  have loop : ∀ (d j n : Nat) (bs pr : Nat → Int32), j + d = 10 → d < n → (∀ x, x < j → bs x = nI x ∧ pr x = -1) → wX_search_2 post (nI r) on am bA bB ev wt sh n (nI j) ed mt bs pr qu fm := by
    intro d
    induction d with
    | zero =>
      intro j n bs pr hj hn hi
      obtain ⟨k, rfl⟩ : ∃ k, n = k + 1 := ⟨n - 1, by omega⟩
      have e : j = 10 := by omega
      subst e
      refine br_t (by decide) (xs_meet (q := []) hr List.nodup_nil (fun y hy => by simp at hy) (fun j => by simp [b_0]) ⟨rfl, fun i x h => by simp at h⟩ (fun h => by simp at h) (fun _ ev' wt' qu' e1 e2 => ?_))
      refine ⟨11, xs_s45 hW hm hmr rm hrS K1 K2 10 0 11 [r] (fun _ => 10) (fun x => x) ev' wt' sh bs pr qu' rfl (by decide) ⟨sv_init hm hr hmr, e1, e2, fun x hx => (hi x hx).1, fun x hx => ?_⟩ ?_ (Nat.zero_le _)⟩
      · rw [(hi x hx).2]; rfl
      · intro x hx y hg hs
        unfold sv_sc at hs
        omega
    | succ d ih =>
      intro j n bs pr hj hn hi
      obtain ⟨k, rfl⟩ : ∃ k, n = k + 1 := ⟨n - 1, by omega⟩
      have j10 : j < 10 := by omega
      refine br_f (rd_i j10) ⟨rd_v j10, ?_⟩
      rw [rd_c j10]
      refine nm_e ⟨rd_v j10, nm_e (nm_r (nI_1 j) (ih (j + 1) k _ _ (by omega) (by omega) (fun x hx => ?_)))⟩
      by_cases e : x = j
      · subst e; exact ⟨pk_us, pk_us⟩
      · rw [pk_un e, pk_un e]; exact hi x (by omega)
  exact ⟨11, loop 10 0 11 bs pr rfl (by decide) (fun x hx => absurd hx (by omega))⟩
end
end
section
/-! ===== X: turning round, matchings, free vertices ===== -/
section
variable {on am bA bB ev wt sh : Int32} {ed mt bs pr qu fm : Nat → Int32}
variable {G : Nat → Nat → Prop} {m : Nat → Nat} {r : Nat} {q : List Nat} {p b : Nat → Nat}
theorem xs_turn (hG : mg_G G) (rp : rp_p p pr) (hr10 : r < 10) {post : SX → Prop} : ∀ (l : List Nat) (x w i n : Nat) (μ : Nat → Nat) (mt : Nat → Int32), mg_M G μ → wk_W (fun a => p (μ a)) x l r → μ r = r → μ w = w → G w x → p w = x → (∀ a, a ∈ l → μ a ≠ a ∧ G (μ a) (p (μ a))) → (∀ a, a ∈ l → ∀ c, c ∈ l → μ a ≠ c) → r ∉ l → w ≠ r → l.length + i < 10 → l.length + 1 < n → (∀ j, j < 10 → j ≠ w → mt j = if μ j = j then -1 else nI (μ j)) → (∀ μ' mt', mg_M G μ' → (∀ j, j < 10 → mt' j = if μ' j = j then -1 else nI (μ' j)) → (∀ z, μ' z ≠ z ↔ (μ z ≠ z ∨ z = w ∨ z = r)) → post (on, am, bA, bB, ev, wt, sh, ed, mt', bs, pr, qu, fm)) → wX_turnRound_4 post on am bA bB ev wt sh n (nI w) (nI i) ed mt bs pr qu fm := by
  intro l
  induction l with
  | nil =>
    intro x w i n μ mt hμ hW hr hw hg hpw _ _ _ hwr hi hn rm hpost
    obtain ⟨k, rfl⟩ : ∃ k, n = k + 2 := ⟨n - 2, by omega⟩
    have e : x = r := hW
    subst e
    have hi10 : i < 10 := by simp at hi; exact hi
    have hw10 := (hG _ _ hg).2.1
    have e1 : pr (nI w).toNatClampNeg = nI x := by rw [rd_p rp hw10 (by rw [hpw]; exact hr10), hpw]
    have e2 : mt (nI x).toNatClampNeg = -1 := by rw [rd_c hr10, rm x hr10 (Ne.symm hwr), if_pos hr]
    refine br_f (rd_i hi10) (br_f (rd_x hw10) ⟨rd_v hw10, nm_r e1 ⟨rd_v hr10, nm_r e2 ⟨rd_v hr10, ?_⟩⟩⟩)
    rw [rd_c hr10, rd_c hw10]
    have K : post (on, am, bA, bB, ev, wt, sh, ed, upd (upd mt x (nI w)) w (nI x), bs, pr, qu, fm) := by
      refine hpost (mg_add μ w x) _ (mg_addM hG hμ hw hr hg) (fun j hj => ?_) (fun z => mg_add_ne hwr z)
      by_cases ew : j = w
      · subst ew; rw [pk_us, mg_add_a, if_neg (Ne.symm hwr)]
      · rw [pk_un ew]
        by_cases ex : j = x
        · subst ex; rw [pk_us, mg_add_b, if_neg hwr]
        · rw [pk_un ex, mg_add_o ew ex]; exact rm j hj ew
    exact nm_e ⟨rd_v hw10, nm_e (nm_e (br_c (fun _ => K) (fun _ => br_t rd_n1 K)))⟩
  | cons a t ih =>
    intro x w i n μ mt hμ hW hr hw hg hpw ha hf hn hwr hi hnn rm hpost
    obtain ⟨k, rfl⟩ : ∃ k, n = k + 1 := ⟨n - 1, by omega⟩
    simp only [List.length_cons] at hi hnn
    have hnd := List.nodup_cons.mp (wk_nodup hW hn)
    obtain ⟨e, hW2⟩ := hW
    subst e
    obtain ⟨ha1, ha2⟩ := ha x List.mem_cons_self
    obtain ⟨y, hy⟩ : ∃ y, y = μ x := ⟨_, rfl⟩
    rw [← hy] at ha1 ha2
    have hyx : μ y = x := by rw [hy]; exact hμ.1 x
    have hxr : x ≠ r := fun e => hn (e ▸ List.mem_cons_self)
    have hyr : y ≠ r := fun e => by rw [e, hr] at hyx; exact hxr hyx.symm
    have hwx : w ≠ x := fun e => by rw [← e, hw] at hy; exact ha1 (hy.trans e)
    have hwy : w ≠ y := fun e => by rw [← e, hw] at hyx; exact hwx hyx
    have hwt : w ∉ t := fun e => (ha w (List.mem_cons_of_mem _ e)).1 hw
    have hyt : y ∉ t := fun e => hf x List.mem_cons_self y (List.mem_cons_of_mem _ e) hy.symm
    have hd := mg_delM hμ hy.symm
    have hM1 : mg_M G (mg_add (mg_del μ x y) w x) := mg_addM hG hd (by rw [mg_del_o hwx hwy]; exact hw) mg_del_a hg
    have hsame : ∀ c, c ∈ t → mg_add (mg_del μ x y) w x c = μ c := by
      intro c hc
      have c1 : c ≠ x := fun e => hnd.1 (e ▸ hc)
      have c2 : c ≠ y := fun e => hyt (e ▸ hc)
      have c3 : c ≠ w := fun e => hwt (e ▸ hc)
      rw [mg_add_o c3 c1, mg_del_o c1 c2]
    have hw10 := (hG _ _ hg).2.1
    have hx10 := (hG _ _ hg).2.2.1
    have hy10 := (hG _ _ ha2).2.1
    have e1 : pr (nI w).toNatClampNeg = nI x := by rw [rd_p rp hw10 (by rw [hpw]; exact hx10), hpw]
    have e2 : mt (nI x).toNatClampNeg = nI y := by rw [rd_c hx10, rm x hx10 (Ne.symm hwx), if_neg (by rw [← hy]; exact ha1), ← hy]
    refine br_f (rd_i (by omega)) (br_f (rd_x hw10) ⟨rd_v hw10, nm_r e1 ⟨rd_v hx10, nm_r e2 ⟨rd_v hx10, ?_⟩⟩⟩)
    rw [rd_c hx10, rd_c hw10]
    refine nm_e ⟨rd_v hw10, nm_e (nm_r (nI_1 i) (ih (p y) y (i + 1) k (mg_add (mg_del μ x y) w x) _ hM1
      (wk_congr (show wk_W (fun a => p (μ a)) (p y) t r by rw [hy]; exact hW2) (fun c hc => by show p _ = p _; rw [hsame c hc]))
      (by rw [mg_add_o (Ne.symm hwr) (Ne.symm hxr), mg_del_o (Ne.symm hxr) (Ne.symm hyr)]; exact hr)
      (by rw [mg_add_o (Ne.symm hwy) ha1, mg_del_b])
      ha2 rfl
      (fun c hc => by rw [hsame c hc]; exact ha c (List.mem_cons_of_mem _ hc))
      (fun c hc d hd => by rw [hsame c hc]; exact hf c (List.mem_cons_of_mem _ hc) d (List.mem_cons_of_mem _ hd))
      (fun e => hn (List.mem_cons_of_mem _ e)) hyr (by omega) (by omega) (fun j hj hjy => ?_) (fun μ' mt' h1 h2 h3 => hpost μ' mt' h1 h2 (fun z => ?_))))⟩
    · by_cases ew : j = w
      · subst ew; rw [pk_us, mg_add_a, if_neg (Ne.symm hwx)]
      · rw [pk_un ew]
        by_cases ex : j = x
        · subst ex; rw [pk_us, mg_add_b, if_neg hwx]
        · rw [pk_un ex, mg_add_o ew ex, mg_del_o ex hjy]; exact rm j hj ew
    · rw [h3 z, mg_add_ne hwx, mg_del_ne]
      have k1 : μ x ≠ x := by rw [← hy]; exact ha1
      have k2 : μ y ≠ y := by rw [hyx]; exact Ne.symm ha1
      grind
theorem xs_turnRound (hG : mg_G G) (hm : mg_M G m) (hmr : m r = r) (rm : rp_m m mt) {w : Nat} (hE : sx_E G m r w pr) {post : SX → Prop} (K : ∀ m' mt', mg_M G m' → rp_m m' mt' → (∀ z, m' z ≠ z ↔ (m z ≠ z ∨ z = w ∨ z = r)) → post (on, am, bA, bB, ev, wt, sh, ed, mt', bs, pr, qu, fm)) : wpX_turnRound post (on, am, bA, bB, ev, wt, sh, ed, mt, bs, pr, qu, fm) (nI w) := by
  obtain ⟨q, p, b, v, A, hv, hw, hmw, hwr, hg, rp⟩ := hE
  obtain ⟨l, h1, h2, h3, h4⟩ := sv_full hm hmr A hv
  have h10 : ∀ x, x ∈ q → x < 10 := A.2.2.2.1
  have hr10 := h10 r A.2.1
  have hlen := mc_nine (wk_nodup h1 h2) hr10 h2 (fun x hx => h10 x (h3 x hx).1)
  have hne : ∀ a, a ∈ l → m a ≠ w := fun a ha e => hw (by
    have : a = w := by rw [← hm.1 a, e, hmw]
    rw [← this]; exact (h3 a ha).1)
  refine ⟨l.length + 2, xs_turn hG rp hr10 l v w 0 _ m mt hm (wk_congr h1 (fun a ha => if_neg (hne a ha))) hmr hmw (hG _ _ hg).1 (if_pos rfl) (fun a ha => ⟨(h3 a ha).2.1, ?_⟩) h4 h2 hwr (by omega) (by omega) (fun j hj _ => (rm j hj).2) (fun μ' mt' k1 k2 k3 => K μ' mt' k1 (fun j hj => ⟨?_, k2 j hj⟩) k3)⟩
  · show G (m a) (if m a = w then v else p (m a))
    rw [if_neg (hne a ha)]
    exact (h3 a ha).2.2
  · by_cases e : μ' j = j
    · rw [e]; exact hj
    · exact (hG _ _ (k1.2 j e)).2.2.1
theorem xs_big (hG : mg_G G) (hm : mg_M G m) (hmr : m r = r) {w : Nat} (hE : sx_E G m r w pr) : ∃ m', mg_M G m' ∧ mg_sz m' = mg_sz m + 2 := by
  obtain ⟨q, p, b, v, A, hv, hw, hmw, hwr, hg, rp⟩ := hE
  obtain ⟨l, h1, h2, h3, h4⟩ := sv_full hm hmr A hv
  have hr10 := A.2.2.2.1 r A.2.1
  obtain ⟨m', k1, k2⟩ := wk_flip hG l v w m hm h1 hmr hmw (hG _ _ hg).1 (fun a ha => (h3 a ha).2) h4 h2 hwr
  exact ⟨m', k1, mg_sz_2 (hG _ _ hg).2.2.1 hr10 hwr hmw hmr k2⟩
theorem xs_ma30 (hW : gr_W ed) {post : Int32 → SX → Prop}
    (K : ∀ k m ev wt sh mt bs pr qu, mg_M (gr_B ed am bA bB) m → rp_m m mt → mg_sz m = 2 * k → mg_mx (gr_B ed am bA bB) k → post (nI k) (on, am, bA, bB, ev, wt, sh, ed, mt, bs, pr, qu, fm)) :
    ∀ (d j n k : Nat) (m : Nat → Nat) (ev wt sh : Int32) (mt bs pr qu : Nat → Int32), j + d = 10 → d < n → mg_M (gr_B ed am bA bB) m → rp_m m mt → mg_sz m = 2 * k → (∀ u, u < j → bt am u = true → m u = u → ∀ M', mg_M (gr_B ed am bA bB) M' → (∀ x, m x ≠ x → M' x ≠ x) → M' u = u) → wX_matchAmong_30 post am n (nI k) (nI j) on am bA bB ev wt sh ed mt bs pr qu fm := by
  have hG := gr_BG hW am bA bB
  intro d
  induction d with
  | zero =>
    intro j n k m ev wt sh mt bs pr qu hj hn hm rm hsz hc
    obtain ⟨k', rfl⟩ : ∃ k', n = k' + 1 := ⟨n - 1, by omega⟩
    have e : j = 10 := by omega
    subst e
    refine br_t (by decide) (K k m ev wt sh mt bs pr qu hm rm hsz ⟨⟨m, hm, hsz⟩, fun N hN => ?_⟩)
    rw [← hsz]
    refine mg_aug hG hm (fun r M' hr hM' hcov => ?_) 10 N hN (mg_cn_le _ _)
    by_cases e : M' r = r
    · exact e
    · have hg := hM'.2 r e
      exact hc r hg.1.1 hg.1.2.2.2.1 hr M' hM' hcov
  | succ d ih =>
    intro j n k m ev wt sh mt bs pr qu hj hn hm rm hsz hc
    obtain ⟨k', rfl⟩ : ∃ k', n = k' + 1 := ⟨n - 1, by omega⟩
    have j10 : j < 10 := by omega
    have same : (bt am j = true → m j = j → False) → wX_matchAmong_30 post am k' (nI k) (nI (j + 1)) on am bA bB ev wt sh ed mt bs pr qu fm := by
      intro hne
      refine ih (j + 1) k' k m ev wt sh mt bs pr qu (by omega) (by omega) hm rm hsz (fun u hu hS hmu => ?_)
      by_cases e : u = j
      · subst e; exact absurd hmu (hne hS)
      · exact hc u (by omega) hS hmu
    refine br_f (rd_i j10) (xb_inX j rfl (by omega) (fun h => nm_r (nI_1 j) (same (fun h2 => by rw [h] at h2; exact absurd h2 (by decide)))) (fun hS => ⟨rd_v j10, ?_⟩))
    by_cases hmj : m j = j
    · rw [rd_m0 rm j10 hmj]
      refine br_f rd_n0 (xs_search hW hm j10 hmj rm hS (fun q p b ev' wt' sh' bs' pr' qu' R S => ?_) (fun w ev' wt' sh' bs' pr' qu' hw10 hE => ?_))
      · refine br_t rd_n1 (nm_r (nI_1 j) (ih (j + 1) k' k m ev' wt' sh' mt bs' pr' qu' (by omega) (by omega) hm rm hsz (fun u hu huS hmu M' hM' hcov => ?_)))
        by_cases e : u = j
        · subst e
          obtain ⟨x, hx, hx2⟩ := sv_cert hG hm hmj R.1 S hM'
          by_cases e2 : x = u
          · rw [← e2]; exact hx2
          · exact absurd hx2 (hcov x (R.1.2.2.2.2.1 x hx e2))
        · exact hc u (by omega) huS hmu M' hM' hcov
      · have hE' := hE
        obtain ⟨q, p, b, v, A, hv, hw, hmw, hwr, hg, rp⟩ := hE'
        refine br_f (rd_x hw10) (xs_turnRound hG hm hmj rm hE (fun m' mt' e1 e2 e3 => ?_))
        refine nm_r (nI_1 k) (nm_r (nI_1 j) (ih (j + 1) k' (k + 1) m' ev' wt' sh' mt' bs' pr' qu' (by omega) (by omega) e1 e2 ?_ (fun u hu huS hmu M' hM' hcov => ?_)))
        · rw [mg_sz_2 hw10 j10 hwr hmw hmj e3, hsz]; omega
        · have hmu' : ¬ (m u ≠ u ∨ u = w ∨ u = j) := fun h => (e3 u).mpr h hmu
          have huj : u ≠ j := fun e => hmu' (Or.inr (Or.inr e))
          refine hc u (by omega) huS ?_ M' hM' (fun x hx => hcov x ((e3 x).mpr (Or.inl hx)))
          by_cases e : m u = u
          · exact e
          · exact absurd (Or.inl e) hmu'
    · rw [rd_m rm j10 hmj]
      exact br_t (rd_g (rm j j10).1) (nm_r (nI_1 j) (same (fun _ h => hmj h)))
theorem xs_matchAmong (hW : gr_W ed) {set : Int32} {post : Int32 → SX → Prop}
    (K : ∀ k m ev wt sh mt bs pr qu, mg_M (gr_B ed set bA bB) m → rp_m m mt → mg_sz m = 2 * k → mg_mx (gr_B ed set bA bB) k → post (nI k) (on, set, bA, bB, ev, wt, sh, ed, mt, bs, pr, qu, fm)) : wpX_matchAmong post (on, am, bA, bB, ev, wt, sh, ed, mt, bs, pr, qu, fm) set := by
  have loop : ∀ (d j n : Nat) (mt : Nat → Int32), j + d = 10 → d < n → (∀ x, x < j → mt x = -1) → wX_matchAmong_7 post set on set bA bB ev wt sh n (nI j) ed mt bs pr qu fm := by
    intro d
    induction d with
    | zero =>
      intro j n mt hj hn hi
      obtain ⟨k, rfl⟩ : ∃ k, n = k + 1 := ⟨n - 1, by omega⟩
      have e : j = 10 := by omega
      subst e
      refine br_t (by decide) ⟨11, xs_ma30 hW K 10 0 11 0 (fun x => x) ev wt sh mt bs pr qu rfl (by decide) (mg_id _) (fun x hx => ⟨hx, by rw [hi x hx]; simp⟩) ?_ (fun u hu => absurd hu (by omega))⟩
      have : mg_sz (fun x => x) ≤ 0 := by
        have h := mg_cn_mono (f := fun x => decide ((fun x : Nat => x) x ≠ x)) (g := fun _ => false) (n := 10) (fun x _ h => absurd rfl (of_decide_eq_true h))
        exact h
      omega
    | succ d ih =>
      intro j n mt hj hn hi
      obtain ⟨k, rfl⟩ : ∃ k, n = k + 1 := ⟨n - 1, by omega⟩
      have j10 : j < 10 := by omega
      refine br_f (rd_i j10) ⟨rd_v j10, ?_⟩
      rw [rd_c j10]
      refine nm_e (nm_r (nI_1 j) (ih (j + 1) k _ (by omega) (by omega) (fun x hx => ?_)))
      by_cases e : x = j
      · subst e; exact pk_us
      · rw [pk_un e]; exact hi x (by omega)
  exact ⟨11, loop 10 0 11 mt rfl (by decide) (fun x hx => absurd hx (by omega))⟩
theorem xs_sizeAmong (hW : gr_W ed) {set : Int32} {post : Int32 → SX → Prop}
    (K : ∀ k m ev wt sh mt bs pr qu, mg_M (gr_B ed set (-1) (-1)) m → rp_m m mt → mg_sz m = 2 * k → mg_mx (gr_G ed set) k → post (nI k) (on, set, (-1), (-1), ev, wt, sh, ed, mt, bs, pr, qu, fm)) : wpX_sizeAmong post (on, am, bA, bB, ev, wt, sh, ed, mt, bs, pr, qu, fm) set :=
  xs_matchAmong (am := am) hW (fun k m ev wt sh mt bs pr qu h1 h2 h3 h4 => K k m ev wt sh mt bs pr qu h1 h2 h3 (mg_mx_iff gr_B0 h4))
/-- set is the set of the vertices that some greatest matching (of k edges) misses -/
def fv_D (ed : Nat → Int32) (on : Int32) (k : Nat) (set : Int32) : Prop := xb_sm set ∧ ∀ x, x < 10 → (bt set x = true ↔ (bt on x = true ∧ mg_mx (gr_G ed (on &&& (((1 : Int32) <<< (nI x &&& 31)) ^^^ (-1)))) k))
theorem gr_clr {ed : Nat → Int32} {S : Int32} {a : Nat} (ha : a < 10) (x y : Nat) : gr_G ed (S &&& (((1 : Int32) <<< (nI a &&& 31)) ^^^ (-1))) x y ↔ (gr_G ed S x y ∧ x ≠ a ∧ y ≠ a) := by
  unfold gr_G
  rw [xb_clr S (by omega), xb_clr S (by omega)]
  simp only [Bool.and_eq_true, decide_eq_true_eq]
  constructor
  · rintro ⟨h1, h2, h3, ⟨h4, h5⟩, h6, h7⟩; exact ⟨⟨h1, h2, h3, h4, h6⟩, h5, h7⟩
  · rintro ⟨⟨h1, h2, h3, h4, h6⟩, h5, h7⟩; exact ⟨h1, h2, h3, ⟨h4, h5⟩, h6, h7⟩
theorem fv_end (hW : gr_W ed) {k : Nat} {set : Int32} (hm : mg_M (gr_G ed on) m) (hsz : mg_sz m = 2 * k) (hmx : mg_mx (gr_G ed on) k)
    (s1 : ∀ x, bt set x = true → x < 10 ∧ bt on x = true ∧ ∃ m', mg_M (gr_G ed on) m' ∧ mg_sz m' = 2 * k ∧ m' x = x)
    (s2 : ∀ u, u < 10 → bt on u = true → m u = u → ∃ q : List Nat, (∀ x, x ∈ q → bt set x = true) ∧ u ∈ q ∧ (∀ x, x ∈ q → x ≠ u → m x ≠ x) ∧ ∀ M', mg_M (gr_G ed on) M' → ∃ x, x ∈ q ∧ M' x = x) : fv_D ed on k set := by
  have hG := gr_GG hW on
  refine ⟨fun j hj => ?_, fun x hx => ⟨fun h => ?_, fun h => ?_⟩⟩
  · cases h : bt set j
    · rfl
    · have := (s1 j h).1; omega
  · obtain ⟨h1, h2, m', h3, h4, h5⟩ := s1 x h
    refine ⟨h2, ⟨m', ⟨h3.1, fun z hz => (gr_clr hx _ _).mpr ⟨h3.2 z hz, fun e => hz (by rw [e]; exact h5), fun e => hz ?_⟩⟩, h4⟩, fun N hN => hmx.2 N (mg_M_sub (fun a c h => ((gr_clr hx a c).mp h).1) hN)⟩
    have := h3.1 z
    rw [e, h5] at this
    rw [e]; exact this
  · obtain ⟨hon, ⟨N, hN, hNs⟩, -⟩ := h
    by_cases hmx2 : m x = x
    · obtain ⟨q, q1, q2, q3, q4⟩ := s2 x hx hon hmx2
      exact q1 x q2
    · have hNx : N x = x := by
        by_cases e : N x = x
        · exact e
        · exact absurd rfl ((gr_clr hx _ _).mp (hN.2 x e)).2.1
      have hN' : mg_M (gr_G ed on) N := mg_M_sub (fun a c h => ((gr_clr hx a c).mp h).1) hN
      obtain ⟨M1, N1, hM1, hN1, hh⟩ := mg_ex hG 10 m N x hm hN' (mg_sz_le _) hmx2 hNx
      rcases hh with ⟨u, u1, u2, u3, -, u5⟩ | ⟨z, z1, z2, z3, -⟩
      · have hu10 := (hG _ _ (hm.2 u u2)).2.1
        have := mg_sz_2 hx hu10 (Ne.symm u1) hNx u3 u5
        have := hmx.2 N1 hN1
        omega
      · have hg := hN'.2 z z1
        obtain ⟨q, q1, q2, q3, q4⟩ := s2 z hg.1 hg.2.2.2.1 z2
        obtain ⟨y, y1, y2⟩ := q4 M1 hM1
        have hn : ¬ ((m y ≠ y ∧ y ≠ x) ∨ y = z) := fun h => (z3 y).mpr h y2
        have hyz : y ≠ z := fun e => hn (Or.inr e)
        have hyx : y = x := by
          by_cases e : y = x
          · exact e
          · exact absurd (Or.inl ⟨q3 y y1 hyz, e⟩) hn
        rw [← hyx]; exact q1 y y1
theorem xs_fv13 (hW : gr_W ed) {k : Nat} {post : Int32 → SX → Prop} (hm : mg_M (gr_B ed on (-1) (-1)) m) (rm : rp_m m mt) (hsz : mg_sz m = 2 * k) (hmx : mg_mx (gr_G ed on) k)
    (K : ∀ set ev wt sh bs pr qu, fv_D ed on k set → post set (on, on, (-1), (-1), ev, wt, sh, ed, mt, bs, pr, qu, fm)) :
    ∀ (d j n : Nat) (set ev wt sh : Int32) (bs pr qu : Nat → Int32), j + d = 10 → d < n → (∀ x, bt set x = true → x < 10 ∧ bt on x = true ∧ ∃ m', mg_M (gr_G ed on) m' ∧ mg_sz m' = 2 * k ∧ m' x = x) → (∀ u, u < j → bt on u = true → m u = u → ∃ q : List Nat, (∀ x, x ∈ q → bt set x = true) ∧ u ∈ q ∧ (∀ x, x ∈ q → x ≠ u → m x ≠ x) ∧ ∀ M', mg_M (gr_G ed on) M' → ∃ x, x ∈ q ∧ M' x = x) → wX_freeVertices_13 post n set (nI j) on on ((-1)) ((-1)) ev wt sh ed mt bs pr qu fm := by
  have hG := gr_BG hW on (-1) (-1)
  have hm' : mg_M (gr_G ed on) m := mg_M_sub (fun x y => (gr_B0 x y).mp) hm
  intro d
  induction d with
  | zero =>
    intro j n set ev wt sh bs pr qu hj hn s1 s2
    obtain ⟨k', rfl⟩ : ∃ k', n = k' + 1 := ⟨n - 1, by omega⟩
    have e : j = 10 := by omega
    subst e
    exact br_t (by decide) (K set ev wt sh bs pr qu (fv_end hW hm' hsz hmx s1 s2))
  | succ d ih =>
    intro j n set ev wt sh bs pr qu hj hn s1 s2
    obtain ⟨k', rfl⟩ : ∃ k', n = k' + 1 := ⟨n - 1, by omega⟩
    have j10 : j < 10 := by omega
    have same : (bt on j = true → m j = j → False) → wX_freeVertices_13 post k' set (nI (j + 1)) on on ((-1)) ((-1)) ev wt sh ed mt bs pr qu fm := by
      intro hne
      refine ih (j + 1) k' set ev wt sh bs pr qu (by omega) (by omega) s1 (fun u hu hS hmu => ?_)
      by_cases e : u = j
      · subst e; exact absurd hmu (hne hS)
      · exact s2 u (by omega) hS hmu
    refine br_f (rd_i j10) (xb_inX j rfl (by omega) (fun h => nm_r (nI_1 j) (same (fun h2 => by rw [h] at h2; exact absurd h2 (by decide)))) (fun hS => ⟨rd_v j10, ?_⟩))
    by_cases hmj : m j = j
    · rw [rd_m0 rm j10 hmj]
      refine br_f rd_n0 (xs_search hW hm j10 hmj rm hS (fun q p b ev' wt' sh' bs' pr' qu' R S => ?_) (fun w ev' wt' sh' bs' pr' qu' hw10 hE => ?_))
      · have re := R.2.1
        have h10 : ∀ x, x ∈ q → x < 10 := R.1.2.2.2.1
        have h5 : ∀ x, x ∈ q → x ≠ j → m x ≠ x := R.1.2.2.2.2.1
        refine nm_e (nm_r (nI_1 j) (ih (j + 1) k' _ ev' wt' sh' bs' pr' qu' (by omega) (by omega) (fun x hx => ?_) (fun u hu huS hmu => ?_)))
        · rw [b_or, Bool.or_eq_true] at hx
          rcases hx with hx | hx
          · exact s1 x hx
          · have hxq := (re x).mp hx
            by_cases e : x = j
            · subst e
              exact ⟨j10, hS, m, hm', hsz, hmj⟩
            · obtain ⟨m', e1, e2⟩ := sv_miss hG hm hmj R.1 hxq e
              have hmx1 := h5 x hxq e
              refine ⟨h10 x hxq, (hm.2 x hmx1).1.2.2.2.1, m', mg_M_sub (fun x y => (gr_B0 x y).mp) e1, ?_, ?_⟩
              · rw [mg_sz_s (h10 x hxq) j10 hmx1 hmj e2]; exact hsz
              · by_cases e3 : m' x = x
                · exact e3
                · rcases (e2 x).mp e3 with h | h
                  · exact absurd rfl h.2
                  · exact absurd h e
        · by_cases e : u = j
          · subst e
            refine ⟨q, fun x hx => ?_, R.1.2.1, h5, fun M' hM' => sv_cert hG hm hmj R.1 S (mg_M_sub (fun x y => (gr_B0 x y).mpr) hM')⟩
            rw [b_or, (re x).mpr hx, Bool.or_true]
          · obtain ⟨q0, q1, q2, q3, q4⟩ := s2 u (by omega) huS hmu
            exact ⟨q0, fun x hx => by rw [b_or, q1 x hx, Bool.true_or], q2, q3, q4⟩
      · obtain ⟨m', e1, e2⟩ := xs_big hG hm hmj hE
        have := hmx.2 m' (mg_M_sub (fun x y => (gr_B0 x y).mp) e1)
        omega
    · rw [rd_m rm j10 hmj]
      exact br_t (rd_g (rm j j10).1) (nm_r (nI_1 j) (same (fun _ h => hmj h)))
theorem xs_free (hW : gr_W ed) {post : Int32 → SX → Prop}
    (K : ∀ k set ev wt sh mt bs pr qu, mg_mx (gr_G ed on) k → fv_D ed on k set → post set (on, on, (-1), (-1), ev, wt, sh, ed, mt, bs, pr, qu, fm)) : wpX_freeVertices post (on, am, bA, bB, ev, wt, sh, ed, mt, bs, pr, qu, fm) := by
  unfold wpX_freeVertices
  dsimp only
  refine xs_sizeAmong hW (fun k m ev wt sh mt bs pr qu h1 h2 h3 h4 => ?_)
  exact ⟨11, xs_fv13 hW h1 h2 h3 h4 (fun set ev wt sh bs pr qu h => K k set ev wt sh mt bs pr qu h4 h) 10 0 11 0 ev wt sh bs pr qu rfl (by decide) (fun x hx => by rw [b_0] at hx; exact absurd hx (by decide)) (fun u hu => absurd hu (by omega))⟩
end
end
section
/-! ===== Y: the table ===== -/
def yt_T (ed mo : Nat → Int32) (N : Nat) : Prop := ∀ s, xb_sm s → s.toNatClampNeg < N → ∃ k, mo s.toNatClampNeg = nI k ∧ mg_mx (gr_G ed s) k
theorem xb_lt {s t : Int32} (hs : xb_sm s) (ht : xb_sm t) (h : ∀ j, bt t j = true → bt s j = true) (hne : t ≠ s) : t.toNatClampNeg < s.toNatClampNeg := by
  obtain ⟨a, a1, a2, a3, a4⟩ := xb_sm_nI hs
  obtain ⟨c, c1, c2, c3, c4⟩ := xb_sm_nI ht
  rw [a3, c3]
  have e : s &&& t = t := xb_eq (fun j => by
    rw [b_and]
    cases hb : bt t j
    · simp
    · rw [h j hb]; rfl)
  have e2 : (s &&& t).toBitVec.toNat = s.toBitVec.toNat &&& t.toBitVec.toNat := by rw [Int32.toBitVec_and, BitVec.toNat_and]
  rw [e, a2, c2, pk_tn (by omega), pk_tn (by omega)] at e2
  have h1 : a &&& c ≤ a := Nat.and_le_left
  have h2 : c ≠ a := fun e3 => hne (by rw [a2, c2, e3])
  omega
theorem xb_clt {s : Int32} {v : Nat} (hs : xb_sm s) (hv : v < 10) (hb : bt s v = true) : (s &&& (((1 : Int32) <<< (nI v &&& 31)) ^^^ (-1))).toNatClampNeg < s.toNatClampNeg := by
  refine xb_lt hs (xb_sm_and hs) (fun j hj => ?_) (fun e => ?_)
  · rw [b_and, Bool.and_eq_true] at hj; exact hj.1
  · have := xb_clr s (i := v) (by omega) v
    rw [e, hb] at this
    simp at this
/-- the best number so far in the row of s, its first vertex v, partners below j tried -/
def yc_I (ed : Nat → Int32) (s : Int32) (v c j : Nat) : Prop := (∃ m, mg_M (gr_G ed s) m ∧ mg_sz m = 2 * c) ∧ (∀ N, mg_M (gr_G ed s) N → N v = v → mg_sz N ≤ 2 * c) ∧ (∀ N, mg_M (gr_G ed s) N → N v ≠ v → N v < j → mg_sz N ≤ 2 * c)
section
variable {ed mo : Nat → Int32} {on : Int32}
theorem yc_0 {s : Int32} {v c : Nat} (hv : v < 10) (h : mg_mx (gr_G ed (s &&& (((1 : Int32) <<< (nI v &&& 31)) ^^^ (-1)))) c) : yc_I ed s v c 0 := by
  obtain ⟨⟨m, h1, h2⟩, h3⟩ := h
  refine ⟨⟨m, mg_M_sub (fun x y e => ((gr_clr hv x y).mp e).1) h1, h2⟩, fun N hN hNv => h3 N ⟨hN.1, fun x hx => (gr_clr hv _ _).mpr ⟨hN.2 x hx, fun e => hx (by rw [e]; exact hNv), fun e => hx ?_⟩⟩, fun N _ _ h => absurd h (by omega)⟩
  have := hN.1 x
  rw [e, hNv] at this
  rw [e]; exact this
theorem yc_no {s : Int32} {v c j : Nat} (h : yc_I ed s v c j) (hn : ¬ gr_G ed s v j) : yc_I ed s v c (j + 1) := by
  obtain ⟨h1, h2, h3⟩ := h
  refine ⟨h1, h2, fun N hN hNv hj => ?_⟩
  by_cases e : N v = j
  · have := hN.2 v hNv
    rw [e] at this
    exact absurd this hn
  · exact h3 N hN hNv (by omega)
theorem yc_up (hW : gr_W ed) {s : Int32} {v j k : Nat} (hg : gr_G ed s v j) (h : mg_mx (gr_G ed ((s &&& (((1 : Int32) <<< (nI v &&& 31)) ^^^ (-1))) &&& (((1 : Int32) <<< (nI j &&& 31)) ^^^ (-1)))) k) : (∃ m, mg_M (gr_G ed s) m ∧ mg_sz m = 2 * (k + 1)) ∧ ∀ N, mg_M (gr_G ed s) N → N v = j → mg_sz N ≤ 2 * (k + 1) := by
  have hG := gr_GG hW s
  obtain ⟨-, g1, g2, g3⟩ := hG _ _ hg
  have hsub : ∀ x y, gr_G ed ((s &&& (((1 : Int32) <<< (nI v &&& 31)) ^^^ (-1))) &&& (((1 : Int32) <<< (nI j &&& 31)) ^^^ (-1))) x y ↔ (gr_G ed s x y ∧ x ≠ v ∧ y ≠ v ∧ x ≠ j ∧ y ≠ j) := by
    intro x y
    rw [gr_clr g2, gr_clr g1]
    constructor
    · rintro ⟨⟨i1, i2, i3⟩, i4, i5⟩; exact ⟨i1, i2, i3, i4, i5⟩
    · rintro ⟨i1, i2, i3, i4, i5⟩; exact ⟨⟨i1, i2, i3⟩, i4, i5⟩
  obtain ⟨⟨m, h1, h2⟩, h3⟩ := h
  constructor
  · have hmv : m v = v := by
      by_cases e : m v = v
      · exact e
      · exact absurd rfl ((hsub _ _).mp (h1.2 v e)).2.1
    have hmj : m j = j := by
      by_cases e : m j = j
      · exact e
      · exact absurd rfl ((hsub _ _).mp (h1.2 j e)).2.2.2.1
    have hm' : mg_M (gr_G ed s) m := mg_M_sub (fun x y e => ((hsub x y).mp e).1) h1
    refine ⟨mg_add m v j, mg_addM hG hm' hmv hmj hg, ?_⟩
    rw [mg_sz_2 g1 g2 g3 hmv hmj (fun x => mg_add_ne g3 x), h2]
    omega
  · intro N hN hNv
    have hNj : N j = v := by rw [← hNv]; exact hN.1 v
    have hd := mg_delM hN hNv
    have hd2 : mg_M (gr_G ed ((s &&& (((1 : Int32) <<< (nI v &&& 31)) ^^^ (-1))) &&& (((1 : Int32) <<< (nI j &&& 31)) ^^^ (-1)))) (mg_del N v j) := by
      refine ⟨hd.1, fun x hx => (hsub _ _).mpr ⟨hd.2 x hx, ?_⟩⟩
      have hx' := (mg_del_ne x).mp hx
      have hy : mg_del N v j (mg_del N v j x) ≠ mg_del N v j x := by rw [hd.1]; exact Ne.symm hx
      have hy' := (mg_del_ne _).mp hy
      exact ⟨hx'.2.1, hy'.2.1, hx'.2.2, hy'.2.2⟩
    have e := mg_sz_2 (m := mg_del N v j) (n := N) g1 g2 g3 mg_del_a mg_del_b (fun x => by
      rw [mg_del_ne]
      have k1 : N v ≠ v := by rw [hNv]; exact Ne.symm g3
      have k2 : N j ≠ j := by rw [hNj]; exact g3
      grind)
    have := h3 _ hd2
    omega
theorem yc_keep (hW : gr_W ed) {s : Int32} {v c j k : Nat} (hg : gr_G ed s v j) (h : yc_I ed s v c j) (hk : mg_mx (gr_G ed ((s &&& (((1 : Int32) <<< (nI v &&& 31)) ^^^ (-1))) &&& (((1 : Int32) <<< (nI j &&& 31)) ^^^ (-1)))) k) (hle : k + 1 ≤ c) : yc_I ed s v c (j + 1) := by
  obtain ⟨u1, u2⟩ := yc_up hW hg hk
  obtain ⟨h1, h2, h3⟩ := h
  refine ⟨h1, h2, fun N hN hNv hj => ?_⟩
  by_cases e : N v = j
  · have := u2 N hN e
    omega
  · exact h3 N hN hNv (by omega)
theorem yc_new (hW : gr_W ed) {s : Int32} {v c j k : Nat} (hg : gr_G ed s v j) (h : yc_I ed s v c j) (hk : mg_mx (gr_G ed ((s &&& (((1 : Int32) <<< (nI v &&& 31)) ^^^ (-1))) &&& (((1 : Int32) <<< (nI j &&& 31)) ^^^ (-1)))) k) (hle : c < k + 1) : yc_I ed s v (k + 1) (j + 1) := by
  obtain ⟨u1, u2⟩ := yc_up hW hg hk
  obtain ⟨h1, h2, h3⟩ := h
  refine ⟨u1, fun N hN hNv => ?_, fun N hN hNv hj => ?_⟩
  · have := h2 N hN hNv
    omega
  · by_cases e : N v = j
    · exact u2 N hN e
    · have := h3 N hN hNv (by omega)
      omega
theorem yc_end {s : Int32} {v c : Nat} (h : yc_I ed s v c 10) : mg_mx (gr_G ed s) c := by
  obtain ⟨h1, h2, h3⟩ := h
  refine ⟨h1, fun N hN => ?_⟩
  by_cases e : N v = v
  · exact h2 N hN e
  · exact h3 N hN e (hN.2 v e).2.1
theorem yi_first {post : Int32 → Prop} {s : Int32} (hs : ∃ v, v < 10 ∧ bt s v = true) (K : ∀ v, v < 10 → bt s v = true → (∀ u, u < v → bt s u = false) → post (nI v)) : wpY_first post (on, ed, mo) s := by
  have loop : ∀ (d j n : Nat), j + d = 10 → d < n → (∀ u, u < j → bt s u = false) → wY_first_2 post s on ed mo n (nI j) := by
    intro d
    induction d with
    | zero =>
      intro j n hj hn hi
      obtain ⟨v, h1, h2⟩ := hs
      have := hi v (by omega)
      rw [h2] at this
      exact absurd this (by decide)
    | succ d ih =>
      intro j n hj hn hi
      obtain ⟨k, rfl⟩ : ∃ k, n = k + 1 := ⟨n - 1, by omega⟩
      have j10 : j < 10 := by omega
      refine br_f (rd_i j10) (xb_inY j rfl (by omega) (fun h => nm_r (nI_1 j) (ih (j + 1) k (by omega) (by omega) (fun u hu => ?_))) (fun h => K j j10 h hi))
      by_cases e : u = j
      · rw [e]; exact h
      · exact hi u (by omega)
  exact ⟨11, loop 10 0 11 rfl (by decide) (fun u hu => absurd hu (by omega))⟩
theorem yi_41 (hW : gr_W ed) {post : SY → Prop} {J : Int32 → (Nat → Int32) → (Nat → Int32) → Prop} {N v : Nat} (hN : N < 1024) (hv : v < 10) (hb : bt (nI N) v = true) (hT : yt_T ed mo N)
    (HJ : ∀ c, mg_mx (gr_G ed (nI N)) c → J (nI (N + 1)) ed (upd mo N (nI c))) :
    ∀ (d j n c : Nat), j + d = 10 → d < n → c ≤ 10 → yc_I ed (nI N) v c j → wY_fill_41 post J (nI N) (nI v) (nI N &&& (((1 : Int32) <<< (nI v &&& 31)) ^^^ (-1))) on ed mo n (nI c) (nI j) := by
  have hs := xb_sm_of hN
  have hc0 : (nI N).toNatClampNeg = N := nI_clamp (by omega)
  intro d
  induction d with
  | zero =>
    intro j n c hj hn hc hI
    obtain ⟨k, rfl⟩ : ∃ k, n = k + 1 := ⟨n - 1, by omega⟩
    have e : j = 10 := by omega
    subst e
    refine br_t (by decide) ⟨vp_in_nI hN (by decide), ?_⟩
    rw [hc0]
    exact nm_e (nm_r (nI_1 N) (HJ c (yc_end hI)))
  | succ d ih =>
    intro j n c hj hn hc hI
    obtain ⟨k, rfl⟩ : ∃ k, n = k + 1 := ⟨n - 1, by omega⟩
    have j10 : j < 10 := by omega
    refine br_f (rd_i j10) (xb_inY j rfl (by omega) (fun h => nm_r (nI_1 j) (ih (j + 1) k c (by omega) (by omega) hc (yc_no hI (fun g => ?_)))) (fun h => ⟨rd_v hv, ?_⟩))
    · rw [xb_clr _ (by omega), g.2.2.2.2] at h
      simp at h
      have := (gr_GG hW _ _ _ g).2.2.2
      exact this h.symm
    · rw [rd_c hv]
      refine xb_inY j rfl (by omega) (fun h2 => nm_r (nI_1 j) (ih (j + 1) k c (by omega) (by omega) hc (yc_no hI (fun g => ?_)))) (fun h2 => ?_)
      · rw [g.2.2.1] at h2; exact absurd h2 (by decide)
      · rw [xb_clr _ (by omega)] at h
        simp at h
        have hg : gr_G ed (nI N) v j := ⟨hv, j10, h2, hb, h.1⟩
        have hs1 : xb_sm (nI N &&& (((1 : Int32) <<< (nI v &&& 31)) ^^^ (-1))) := xb_sm_and hs
        have hs2 : xb_sm ((nI N &&& (((1 : Int32) <<< (nI v &&& 31)) ^^^ (-1))) &&& (((1 : Int32) <<< (nI j &&& 31)) ^^^ (-1))) := xb_sm_and hs1
        have l1 := xb_clt hs hv hb
        have l2 := xb_clt hs1 j10 (by rw [xb_clr _ (by omega)]; simp [h.1, h.2])
        rw [hc0] at l1
        obtain ⟨q, q1, q2⟩ := hT _ hs2 (by omega)
        have q3 := mg_mx_le q2
        have hvp := (xb_sm_nI hs2).elim (fun _ h => h.2.2.2)
        refine ⟨hvp, ?_⟩
        rw [q1]
        refine pk_le (q + 1) c (fun h3 => nm_r (nI_1 j) (ih (j + 1) k c (by omega) (by omega) hc (yc_keep hW hg hI q2 h3))) (fun h3 => ⟨hvp, nm_r (nI_1 q) (nm_r (nI_1 j) (ih (j + 1) k (q + 1) (by omega) (by omega) (by omega) (yc_new hW hg hI q2 h3)))⟩) (nI_1 q)
theorem yi_fill (hW : gr_W ed) {post : SY → Prop} (K : ∀ mo', yt_T ed mo' 1024 → post (on, ed, mo')) : wpY_fill post (on, ed, mo) := by
  have loop : ∀ (d N n : Nat) (mo : Nat → Int32), N + d = 1024 → 0 < N → d < n → yt_T ed mo N → wY_fill_9 post on n (nI N) ed mo := by
    intro d
    induction d with
    | zero =>
      intro N n mo hN h0 hn hT
      obtain ⟨k, rfl⟩ : ∃ k, n = k + 1 := ⟨n - 1, by omega⟩
      have e : N = 1024 := by omega
      subst e
      exact br_t (by decide) (K mo hT)
    | succ d ih =>
      intro N n mo hN h0 hn hT
      obtain ⟨k, rfl⟩ : ∃ k, n = k + 1 := ⟨n - 1, by omega⟩
      have hN2 : N < 1024 := by omega
      have hs := xb_sm_of hN2
      have hc0 : (nI N).toNatClampNeg = N := nI_clamp (by omega)
      have hex : ∃ v, v < 10 ∧ bt (nI N) v = true := by
        refine Classical.byContradiction (fun hc => ?_)
        have e : nI N = nI 0 := xb_eq (fun j => by
          rw [nI_0, b_0]
          cases hb : bt (nI N) j
          · rfl
          · rcases Nat.lt_or_ge j 10 with h | h
            · exact absurd ⟨j, h, hb⟩ hc
            · rw [hs j h] at hb; exact absurd hb (by decide))
        have := (nI_eq (by omega) (by omega)).mp e
        omega
      refine br_f (nI_ge (b := 1024) hN2 (by decide)) (yi_first hex (fun v hv hb _ => ?_))
      have hs1 : xb_sm (nI N &&& (((1 : Int32) <<< (nI v &&& 31)) ^^^ (-1))) := xb_sm_and hs
      have l1 := xb_clt hs hv hb
      rw [hc0] at l1
      obtain ⟨c, c1, c2⟩ := hT _ hs1 l1
      have c3 := mg_mx_le c2
      refine nm_e ⟨(xb_sm_nI hs1).elim (fun _ h => h.2.2.2), nm_r c1 ⟨11, yi_41 hW hN2 hv hb hT (fun c' hc' => ih (N + 1) k _ (by omega) (by omega) (by omega) (fun s hss hsl => ?_)) 10 0 11 c rfl (by decide) (by omega) (yc_0 hv c2)⟩⟩
      obtain ⟨a, a1, a2, a3, a4⟩ := xb_sm_nI hss
      by_cases e : a = N
      · rw [a3, e, pk_us, a2, e]
        exact ⟨c', rfl, hc'⟩
      · rw [a3, pk_un e, ← a3]
        exact hT s hss (by omega)
  refine nm_e ⟨1024, loop 1023 1 1024 _ rfl (by decide) (by decide) (fun s hss hsl => ?_)⟩
  obtain ⟨a, a1, a2, a3, a4⟩ := xb_sm_nI hss
  have e : a = 0 := by omega
  rw [a3, e, pk_us]
  have hnone : ∀ x y, ¬ gr_G ed s x y := by
    intro x y ⟨_, _, _, h, _⟩
    rw [a2, e, nI_0, b_0] at h
    exact absurd h (by decide)
  refine ⟨0, rfl, ⟨fun x => x, mg_id _, ?_⟩, fun N hN => ?_⟩
  · have := mg_sz_mono (m := fun x => x) (n := fun x => x) (fun x _ h => h)
    have h2 := mg_cn_mono (f := fun x => decide ((fun x : Nat => x) x ≠ x)) (g := fun _ => false) (n := 10) (fun x _ h => absurd rfl (of_decide_eq_true h))
    have h3 : mg_sz (fun x => x) ≤ 0 := h2
    omega
  · have h2 := mg_cn_mono (f := fun x => decide (N x ≠ x)) (g := fun _ => false) (n := 10) (fun x _ h => absurd (hN.2 x (of_decide_eq_true h)) (hnone _ _))
    exact h2
end
end
section
/-! ===== the relation; the graph's changes ===== -/
/-- the same vertices on, the same edges; a graph on 0..9 -/
def i_Rel (_ : Nat) (u : SX) (v : SY) : Prop := match u, v with
  | (on, am, bA, bB, ev, wt, sh, ed, mt, bs, pr, qu, fm), (on2, ed2, _) => on2 = on ∧ ed2 = ed ∧ xb_sm on ∧ gr_W ed
theorem i_up {k : Nat} {u : SX} {v : SY} (h : i_Rel k u v) : i_Rel (k + 4) u v := h
theorem i_vc0 : wpX_init (fun u => wpY_init (fun v => i_Rel 0 u v)) :=
  ⟨rfl, rfl, xb_sm_1023, fun x _ => ⟨fun y _ => by rw [b_0, b_0], b_0 _, fun j _ => b_0 _⟩⟩
def eg_v (v : Int32) : Prop := ∃ a, a < 10 ∧ v = nI a
def eg_p (v w : Int32) : Prop := ∃ a b, a < 10 ∧ b < 10 ∧ a ≠ b ∧ v = nI a ∧ w = nI b
theorem eg_nI {a : Nat} (h : a < 10) : eg_v (nI a) := ⟨a, h, rfl⟩
theorem xi_bad {post : Int32 → Prop} (v : Int32) (h0 : eg_v v → post 0) (h1 : ¬ eg_v v → post 1) : wpX_bad post v := by
  rcases pk_ix v (n := 10) (by decide) with h | h | ⟨j, hj, rfl⟩
  · refine br_t h (h1 ?_)
    rintro ⟨a, ha, rfl⟩
    exact rd_x ha h
  · have hn : ¬ eg_v v := by
      rintro ⟨a, ha, rfl⟩
      exact rd_i ha h
    have h2 : ¬ v < 0 := Int32.not_lt.mpr (Int32.le_trans (by decide) h)
    exact br_f h2 (br_f (Int32.not_lt.mpr h) (h1 hn))
  · exact br_f (rd_x hj) (br_t (nI_lt (b := 10) hj (by decide)) (h0 ⟨j, hj, rfl⟩))
theorem yi_bad {post : Int32 → Prop} {y : SY} (v : Int32) (h0 : eg_v v → post 0) (h1 : ¬ eg_v v → post 1) : wpY_bad post y v := by
  obtain ⟨on, ed, mo⟩ := y
  rcases pk_ix v (n := 10) (by decide) with h | h | ⟨j, hj, rfl⟩
  · refine br_t h (h1 ?_)
    rintro ⟨a, ha, rfl⟩
    exact rd_x ha h
  · have hn : ¬ eg_v v := by
      rintro ⟨a, ha, rfl⟩
      exact rd_i ha h
    have h2 : ¬ v < 0 := Int32.not_lt.mpr (Int32.le_trans (by decide) h)
    have h3 : ¬ v ≤ 9 := Int32.not_le.mpr (Int32.lt_of_lt_of_le (by decide) h)
    exact br_f h2 (br_f h3 (h1 hn))
  · exact br_f (rd_x hj) (br_t (nI_le (b := 9) (by omega) (by decide)) (h0 ⟨j, hj, rfl⟩))
theorem eg_pv {v w : Int32} (hv : eg_v v) (hw : eg_v w) (h : ¬ v = w) : eg_p v w := by
  obtain ⟨a, ha, rfl⟩ := hv
  obtain ⟨b, hb, rfl⟩ := hw
  exact ⟨a, b, ha, hb, fun e => h (by rw [e]), rfl, rfl⟩
theorem eg_pn {v w : Int32} (h : eg_p v w) : eg_v v ∧ eg_v w ∧ ¬ v = w := by
  obtain ⟨a, b, ha, hb, hab, rfl, rfl⟩ := h
  exact ⟨⟨a, ha, rfl⟩, ⟨b, hb, rfl⟩, rd_e ha hb hab⟩
theorem xi_badPair {post : Int32 → Prop} (v w : Int32) (h0 : eg_p v w → post 0) (h1 : ¬ eg_p v w → post 1) : wpX_badPair post v w := by
  unfold wpX_badPair
  refine xi_bad v (fun hv => br_t rfl (xi_bad w (fun hw => br_t rfl (br_c (fun e => h1 (fun h => (eg_pn h).2.2 e)) (fun e => h0 (eg_pv hv hw e)))) (fun hw => br_f (by decide) (h1 (fun h => hw (eg_pn h).2.1))))) (fun hv => br_f (by decide) (h1 (fun h => hv (eg_pn h).1)))
def eg_1 (ed : Nat → Int32) (a b : Nat) : Nat → Int32 := upd (upd ed a (ed a ||| ((1 : Int32) <<< (nI b &&& 31)))) b (upd ed a (ed a ||| ((1 : Int32) <<< (nI b &&& 31))) b ||| ((1 : Int32) <<< (nI a &&& 31)))
def eg_0 (ed : Nat → Int32) (a b : Nat) : Nat → Int32 := upd (upd ed a (ed a &&& (((1 : Int32) <<< (nI b &&& 31)) ^^^ (-1)))) b (upd ed a (ed a &&& (((1 : Int32) <<< (nI b &&& 31)) ^^^ (-1))) b &&& (((1 : Int32) <<< (nI a &&& 31)) ^^^ (-1)))
theorem eg_1b {ed : Nat → Int32} {a b : Nat} (ha : a < 10) (hb : b < 10) (hab : a ≠ b) (x y : Nat) : bt (eg_1 ed a b x) y = (bt (ed x) y || decide ((x = a ∧ y = b) ∨ (x = b ∧ y = a))) := by
  unfold eg_1
  by_cases e1 : x = b
  · subst e1
    rw [pk_us, pk_un (Ne.symm hab), xb_set _ (by omega)]
    simp [Ne.symm hab]
  · rw [pk_un e1]
    by_cases e2 : x = a
    · subst e2
      rw [pk_us, xb_set _ (by omega)]
      simp [hab]
    · rw [pk_un e2]; simp [e1, e2]
theorem eg_0b {ed : Nat → Int32} {a b : Nat} (ha : a < 10) (hb : b < 10) (hab : a ≠ b) (x y : Nat) : bt (eg_0 ed a b x) y = (bt (ed x) y && !decide ((x = a ∧ y = b) ∨ (x = b ∧ y = a))) := by
  unfold eg_0
  by_cases e1 : x = b
  · subst e1
    rw [pk_us, pk_un (Ne.symm hab), xb_clr _ (by omega)]
    simp [Ne.symm hab]
  · rw [pk_un e1]
    by_cases e2 : x = a
    · subst e2
      rw [pk_us, xb_clr _ (by omega)]
      simp [hab]
    · rw [pk_un e2]; simp [e1, e2]
theorem eg_ext {e1 e2 : Nat → Int32} (h : ∀ x y, bt (e1 x) y = bt (e2 x) y) : e1 = e2 := funext (fun x => xb_eq (h x))
theorem eg_10 {ed : Nat → Int32} {a b : Nat} (ha : a < 10) (hb : b < 10) (hab : a ≠ b) : eg_1 (eg_0 ed a b) a b = eg_1 ed a b := by
  refine eg_ext (fun x y => ?_)
  rw [eg_1b ha hb hab, eg_1b ha hb hab, eg_0b ha hb hab]
  cases bt (ed x) y <;> cases decide ((x = a ∧ y = b) ∨ (x = b ∧ y = a)) <;> rfl
theorem eg_W1 {ed : Nat → Int32} {a b : Nat} (hW : gr_W ed) (ha : a < 10) (hb : b < 10) (hab : a ≠ b) : gr_W (eg_1 ed a b) := by
  intro x hx
  obtain ⟨h1, h2, h3⟩ := hW x hx
  refine ⟨fun y hy => ?_, ?_, fun j hj => ?_⟩
  · rw [eg_1b ha hb hab, eg_1b ha hb hab, h1 y hy]
    have : ((x = a ∧ y = b) ∨ (x = b ∧ y = a)) ↔ ((y = a ∧ x = b) ∨ (y = b ∧ x = a)) := by grind
    rw [mg_dec this]
  · rw [eg_1b ha hb hab, h2, decide_eq_false (by omega)]; rfl
  · rw [eg_1b ha hb hab, h3 j hj, decide_eq_false (by omega)]; rfl
theorem eg_W0 {ed : Nat → Int32} {a b : Nat} (hW : gr_W ed) (ha : a < 10) (hb : b < 10) (hab : a ≠ b) : gr_W (eg_0 ed a b) := by
  intro x hx
  obtain ⟨h1, h2, h3⟩ := hW x hx
  refine ⟨fun y hy => ?_, ?_, fun j hj => ?_⟩
  · rw [eg_0b ha hb hab, eg_0b ha hb hab, h1 y hy]
    have : ((x = a ∧ y = b) ∨ (x = b ∧ y = a)) ↔ ((y = a ∧ x = b) ∨ (y = b ∧ x = a)) := by grind
    rw [mg_dec this]
  · rw [eg_0b ha hb hab, h2]; rfl
  · rw [eg_0b ha hb hab, h3 j hj]; rfl
/-- an edge that is there stays as it is when set -/
theorem eg_1s {ed : Nat → Int32} {a b : Nat} (hW : gr_W ed) (ha : a < 10) (hb : b < 10) (hab : a ≠ b) (h : bt (ed a) b = true) : eg_1 ed a b = ed := by
  have h2 : bt (ed b) a = true := by rw [← (hW a ha).1 b hb]; exact h
  refine eg_ext (fun x y => ?_)
  rw [eg_1b ha hb hab]
  by_cases e : (x = a ∧ y = b) ∨ (x = b ∧ y = a)
  · rcases e with ⟨rfl, rfl⟩ | ⟨rfl, rfl⟩
    · rw [h]; rfl
    · rw [h2]; rfl
  · rw [decide_eq_false e, Bool.or_false]
section
variable {on am bA bB ev wt sh : Int32} {ed mt bs pr qu fm mo : Nat → Int32}
theorem xi_setEdge {post : Int32 → SX → Prop} {a b : Nat} {t : Int32} (ha : a < 10) (hb : b < 10) (hab : a ≠ b) (K0 : t = 0 → post (((ed a) >>> (nI b &&& 31)) &&& 1) (on, am, bA, bB, ev, wt, sh, eg_0 ed a b, mt, bs, pr, qu, fm)) (K1 : ¬ t = 0 → post (((ed a) >>> (nI b &&& 31)) &&& 1) (on, am, bA, bB, ev, wt, sh, eg_1 ed a b, mt, bs, pr, qu, fm)) : wpX_setEdge post (on, am, bA, bB, ev, wt, sh, ed, mt, bs, pr, qu, fm) (nI a) (nI b) t := by
  unfold wpX_setEdge
  dsimp only
  rw [rd_c ha, rd_c hb]
  refine ⟨rd_v ha, nm_e ⟨rd_v ha, rd_v ha, nm_e ⟨rd_v hb, rd_v hb, nm_e (br_c K0 (fun e => ⟨rd_v ha, rd_v ha, nm_e ⟨rd_v hb, rd_v hb, nm_e ?_⟩⟩))⟩⟩⟩
  have := K1 e
  rw [← eg_10 ha hb hab] at this
  exact this
theorem yi_put {post : SY → Prop} {a b : Nat} {t : Int32} (ha : a < 10) (hb : b < 10) (K0 : t = 0 → post (on, eg_0 ed a b, mo)) (K1 : ¬ t = 0 → post (on, eg_1 ed a b, mo)) : wpY_put post (on, ed, mo) (nI a) (nI b) t := by
  unfold wpY_put wY_put_34
  dsimp only
  rw [rd_c ha, rd_c hb]
  exact br_c (fun e => ⟨rd_v ha, rd_v ha, nm_e (br_t e ⟨rd_v hb, rd_v hb, nm_e (K0 e)⟩)⟩) (fun e => ⟨rd_v ha, rd_v ha, nm_e (br_f e ⟨rd_v hb, rd_v hb, nm_e (K1 e)⟩)⟩)
end
theorem i_vc_edge {k : Nat} {u : SX} {v : SY} (I : i_Rel k u v) (hk : k + 4 ≤ 2048) (v1 : Int32) (v2 : Int32) (v3 : Int32) : wpX_edge (fun r u' => wpY_edge (fun r' v' => r' = r ∧ i_Rel (k + 4) u' v') v v1 v2 (lw_bz v3)) u v1 v2 (lw_bz v3) := by
  obtain ⟨on, am, bA, bB, ev, wt, sh, ed, mt, bs, pr, qu, fm⟩ := u
  obtain ⟨on2, ed2, mo⟩ := v
  obtain ⟨rfl, rfl, hs, hW⟩ := I
  unfold wpX_edge wpY_edge
  dsimp only
  by_cases h : eg_p v1 v2
  · obtain ⟨a, b, ha, hb, hab, rfl, rfl⟩ := h
    refine xi_badPair _ _ (fun _ => br_t rfl (xi_setEdge ha hb hab (fun e => ?_) (fun e => ?_))) (fun h => absurd ⟨a, b, ha, hb, hab, rfl, rfl⟩ h)
    · refine yi_bad _ (fun _ => br_t rfl (yi_bad _ (fun _ => br_t rfl (br_f (rd_e ha hb hab) ⟨rd_v ha, nm_e ?_⟩)) (fun h => absurd (eg_nI hb) h))) (fun h => absurd (eg_nI ha) h)
      rw [rd_c ha]
      exact yi_put ha hb (fun _ => ⟨rfl, rfl, rfl, hs, eg_W0 hW ha hb hab⟩) (fun h => absurd e h)
    · refine yi_bad _ (fun _ => br_t rfl (yi_bad _ (fun _ => br_t rfl (br_f (rd_e ha hb hab) ⟨rd_v ha, nm_e ?_⟩)) (fun h => absurd (eg_nI hb) h))) (fun h => absurd (eg_nI ha) h)
      rw [rd_c ha]
      exact yi_put ha hb (fun h => absurd h e) (fun _ => ⟨rfl, rfl, rfl, hs, eg_W1 hW ha hb hab⟩)
  · have fin : (-1 : Int32) = -1 ∧ i_Rel (k + 4) (on2, am, bA, bB, ev, wt, sh, ed2, mt, bs, pr, qu, fm) (on2, ed2, mo) := ⟨rfl, rfl, rfl, hs, hW⟩
    refine xi_badPair _ _ (fun h2 => absurd h2 h) (fun _ => br_f (by decide) ?_)
    exact yi_bad _ (fun hv => br_t rfl (yi_bad _ (fun hw => br_t rfl (br_c (fun _ => fin) (fun e => absurd (eg_pv hv hw e) h))) (fun _ => br_f (by decide) fin))) (fun _ => br_f (by decide) fin)
end
section
/-! ===== turn, circle, clear, size, missed ===== -/
theorem xb_co (s t : Int32) : (s &&& (t ^^^ (-1))) ||| t = s ||| t := xb_eq (fun j => by
  rw [b_or, b_or, xb_andn]
  cases bt s j <;> cases bt t j <;> rfl)
theorem xb_sm_set {s : Int32} {a : Nat} (h : xb_sm s) (ha : a < 10) : xb_sm (s ||| ((1 : Int32) <<< (nI a &&& 31))) := fun j hj => by
  rw [xb_set s (by omega), h j hj, decide_eq_false (by omega)]; rfl
theorem i_vc_turn {k : Nat} {u : SX} {v : SY} (I : i_Rel k u v) (hk : k + 4 ≤ 2048) (v1 : Int32) (v2 : Int32) : wpX_turn (fun r u' => wpY_turn (fun r' v' => r' = r ∧ i_Rel (k + 4) u' v') v v1 (lw_bz v2)) u v1 (lw_bz v2) := by
  obtain ⟨on, am, bA, bB, ev, wt, sh, ed, mt, bs, pr, qu, fm⟩ := u
  obtain ⟨on2, ed2, mo⟩ := v
  obtain ⟨rfl, rfl, hs, hW⟩ := I
  unfold wpX_turn wpY_turn
  dsimp only
  by_cases h : eg_v v1
  · obtain ⟨a, ha, rfl⟩ := h
    refine xi_bad _ (fun _ => br_t rfl (nm_e (nm_e (br_c (fun e => ?_) (fun e => nm_e ?_))))) (fun h => absurd (eg_nI ha) h)
    · exact yi_bad _ (fun _ => br_t rfl (nm_e (br_t e (nm_e ⟨rfl, rfl, rfl, xb_sm_and hs, hW⟩)))) (fun h => absurd (eg_nI ha) h)
    · refine yi_bad _ (fun _ => br_t rfl (nm_e (br_f e (nm_e ⟨rfl, ?_⟩)))) (fun h => absurd (eg_nI ha) h)
      rw [xb_co]
      exact ⟨rfl, rfl, xb_sm_set hs ha, hW⟩
  · refine xi_bad _ (fun h2 => absurd h2 h) (fun _ => br_f (by decide) ?_)
    exact yi_bad _ (fun h2 => absurd h2 h) (fun _ => br_f (by decide) ⟨rfl, rfl, rfl, hs, hW⟩)
def cc_e (ed : Nat → Int32) (a : Nat) : Nat → (Nat → Int32)
  | 0 => ed
  | i + 1 => eg_1 (cc_e ed a i) (a + i) (a + i + 1)
def cc_s (ed : Nat → Int32) (a : Nat) : Nat → Nat
  | 0 => 0
  | i + 1 => cc_s ed a i + (if bt (ed (a + i)) (a + i + 1) = true then 0 else 1)
theorem cc_b {ed : Nat → Int32} {a : Nat} : ∀ (i : Nat), a + i < 10 → ∀ x y, bt (cc_e ed a i x) y = (bt (ed x) y || decide ((x + 1 = y ∧ a ≤ x ∧ x < a + i) ∨ (y + 1 = x ∧ a ≤ y ∧ y < a + i))) := by
  intro i
  induction i with
  | zero =>
    intro _ x y
    rw [decide_eq_false (by omega), Bool.or_false]
    rfl
  | succ i ih =>
    intro h x y
    show bt (eg_1 (cc_e ed a i) (a + i) (a + i + 1) x) y = _
    rw [eg_1b (by omega) (by omega) (by omega), ih (by omega) x y, Bool.or_assoc, ← Bool.decide_or]
    congr 1
    exact mg_dec (by omega)
theorem cc_W {ed : Nat → Int32} {a : Nat} (hW : gr_W ed) : ∀ (i : Nat), a + i < 10 → gr_W (cc_e ed a i) := by
  intro i
  induction i with
  | zero => intro _; exact hW
  | succ i ih => intro h; exact eg_W1 (ih (by omega)) (by omega) (by omega) (by omega)
theorem cc_add (c : Nat) (b : Bool) : nI c + (1 - (if b = true then 1 else 0)) = nI (c + if b = true then 0 else 1) := by
  cases b
  · exact nI_1 c
  · show nI c + (1 - 1) = nI c
    exact Int32.add_zero _
section
variable {on am bA bB ev wt sh : Int32} {ed mt bs pr qu fm mo : Nat → Int32}
theorem xi_c36 {post : Int32 → SX → Prop} {e0 : Nat → Int32} {a b s0 : Nat} (hab : a < b) (hb : b < 10) (ho : ∀ i, a + i < b → bt (cc_e ed a i (a + i)) (a + i + 1) = bt (e0 (a + i)) (a + i + 1)) (K : post (nI (s0 + cc_s e0 a (b - a))) (on, am, bA, bB, ev, wt, sh, cc_e ed a (b - a), mt, bs, pr, qu, fm)) :
    ∀ (d i n : Nat), a + i + d = b → d < n → wX_circle_36 post (nI b) n (nI (s0 + cc_s e0 a i)) (nI (a + i)) on am bA bB ev wt sh (cc_e ed a i) mt bs pr qu fm := by
  intro d
  induction d with
  | zero =>
    intro i n hi hn
    obtain ⟨k, rfl⟩ : ∃ k, n = k + 1 := ⟨n - 1, by omega⟩
    have e : i = b - a := by omega
    subst e
    exact br_t (nI_le (by omega) (by omega)) K
  | succ d ih =>
    intro i n hi hn
    obtain ⟨k, rfl⟩ : ∃ k, n = k + 1 := ⟨n - 1, by omega⟩
    refine br_f (nI_ge (by omega) (by omega)) ?_
    rw [nI_1 (a + i)]
    refine xi_setEdge (by omega) (by omega) (by omega) (fun e => absurd e (by decide)) (fun _ => ?_)
    have e1 : nI (s0 + cc_s e0 a i) + (1 - (((cc_e ed a i (a + i)) >>> (nI (a + i + 1) &&& 31)) &&& 1)) = nI (s0 + cc_s e0 a (i + 1)) := by
      rw [xb_bit _ (by omega), cc_add, ho i (by omega), Nat.add_assoc]
      rfl
    exact nm_r e1 (nm_e (ih (i + 1) k (by omega) (by omega)))
theorem yi_c50 {post : Int32 → SY → Prop} {J : Int32 → Int32 → Int32 → (Nat → Int32) → (Nat → Int32) → Prop} {x1 x2 : Int32} {c v z : Nat} (hW : gr_W ed) (hv : v < 10) (hz : z < 10) (hvz : v ≠ z) (K : J (nI (c + if bt (ed v) z = true then 0 else 1)) (nI (v + 1)) on (eg_1 ed v z) mo) : wY_circle_50 post J x1 x2 (nI c) (nI v) (nI z) on ed mo := by
  unfold wY_circle_50
  rw [rd_c hv]
  refine ⟨rd_v hv, xb_inY z rfl (by omega) (fun h => yi_put hv hz (fun e => absurd e (by decide)) (fun _ => ?_)) (fun h => ?_)⟩
  · rw [h] at K
    exact nm_r (nI_1 c) (nm_r (nI_1 v) K)
  · rw [h, eg_1s hW hv hz hvz h] at K
    exact nm_r (nI_1 v) K
theorem yi_c30 {post : Int32 → SY → Prop} {a b : Nat} (hW : gr_W ed) (hab : a + 2 ≤ b) (hb : b < 10) (K : post (nI (cc_s ed a (b - a) + if bt (ed b) a = true then 0 else 1)) (on, eg_1 (cc_e ed a (b - a)) b a, mo)) :
    ∀ (d i n : Nat), a + i + d = b → d + 1 < n → wY_circle_30 post (nI a) (nI b) n (nI (cc_s ed a i)) (nI (a + i)) on (cc_e ed a i) mo := by
  intro d
  induction d with
  | zero =>
    intro i n hi hn
    obtain ⟨k, rfl⟩ : ∃ k, n = k + 2 := ⟨n - 2, by omega⟩
    have e : i = b - a := by omega
    subst e
    have e2 : a + (b - a) = b := by omega
    rw [e2]
    refine br_f (nI_nlt (Nat.le_refl _) (by omega)) (br_t rfl (yi_c50 (cc_W hW _ (by omega)) hb (by omega) (by omega) ?_))
    rw [cc_b _ (by omega), decide_eq_false (by omega), Bool.or_false]
    exact br_t (nI_lt (by omega) (by omega)) K
  | succ d ih =>
    intro i n hi hn
    obtain ⟨k, rfl⟩ : ∃ k, n = k + 1 := ⟨n - 1, by omega⟩
    refine br_f (nI_nlt (by omega) (by omega)) (br_f (fun e => absurd ((nI_eq (by omega) (by omega)).mp e) (by omega)) ?_)
    rw [nI_1 (a + i)]
    refine yi_c50 (cc_W hW _ (by omega)) (by omega) (by omega) (by omega) ?_
    rw [cc_b _ (by omega), decide_eq_false (by omega), Bool.or_false]
    exact ih (i + 1) k (by omega) (by omega)
end
theorem i_vc_circle {k : Nat} {u : SX} {v : SY} (I : i_Rel k u v) (hk : k + 4 ≤ 2048) (v1 : Int32) (v2 : Int32) : wpX_circle (fun r u' => wpY_circle (fun r' v' => r' = r ∧ i_Rel (k + 4) u' v') v v1 v2) u v1 v2 := by
  obtain ⟨on, am, bA, bB, ev, wt, sh, ed, mt, bs, pr, qu, fm⟩ := u
  obtain ⟨on2, ed2, mo⟩ := v
  obtain ⟨rfl, rfl, hs, hW⟩ := I
  unfold wpX_circle wpY_circle
  dsimp only
  by_cases h1 : eg_v v1
  · by_cases h2 : eg_v v2
    · obtain ⟨a, ha, rfl⟩ := h1
      obtain ⟨b, hb, rfl⟩ := h2
      by_cases hab : a + 2 ≤ b
      · have h2 : (2 : Int32) ≤ nI b - nI a := by
          rw [pk_sub (by omega)]
          exact nI_le (a := 2) (by omega) (by omega)
        refine xi_bad _ (fun _ => br_t rfl (xi_bad _ (fun _ => br_t rfl (br_t h2 (xi_setEdge hb ha (by omega) (fun e => absurd e (by decide)) (fun _ => ?_)))) (fun h => absurd (eg_nI hb) h))) (fun h => absurd (eg_nI ha) h)
        have e1 : 1 - (((ed2 b) >>> (nI a &&& 31)) &&& 1) = nI ((if bt (ed2 b) a = true then 0 else 1) + cc_s ed2 a 0) := by
          rw [xb_bit _ (by omega)]
          cases bt (ed2 b) a
          · show (1 : Int32) - 0 = nI 1
            decide
          · show (1 : Int32) - 1 = nI 0
            decide
        refine nm_r e1 ⟨11, xi_c36 (e0 := ed2) (a := a) (b := b) (by omega) hb (fun i hi => ?_) ?_ (b - a) 0 11 (by omega) (by omega)⟩
        · rw [cc_b _ (by omega), eg_1b hb ha (by omega), decide_eq_false (by omega), decide_eq_false (by omega), Bool.or_false, Bool.or_false]
        · refine yi_bad _ (fun _ => br_t rfl (yi_bad _ (fun _ => br_t rfl (br_t h2 ⟨12, yi_c30 hW hab hb ?_ (b - a) 0 12 (by omega) (by omega)⟩)) (fun h => absurd (eg_nI hb) h))) (fun h => absurd (eg_nI ha) h)
          refine ⟨by rw [Nat.add_comm], rfl, ?_, hs, cc_W (eg_W1 hW hb ha (by omega)) _ (by omega)⟩
          refine eg_ext (fun x y => ?_)
          rw [cc_b _ (by omega), eg_1b hb ha (by omega), eg_1b hb ha (by omega), cc_b _ (by omega), Bool.or_assoc, Bool.or_assoc]
          congr 1
          exact Bool.or_comm _ _
      · have h2 : ¬ (2 : Int32) ≤ nI b - nI a := by
          rw [Int32.le_iff_toInt_le, pk_sub_toInt (by omega) (by omega), show (2 : Int32).toInt = 2 from by decide]
          omega
        refine xi_bad _ (fun _ => br_t rfl (xi_bad _ (fun _ => br_t rfl (br_f h2 ?_)) (fun h => absurd (eg_nI hb) h))) (fun h => absurd (eg_nI ha) h)
        exact yi_bad _ (fun _ => br_t rfl (yi_bad _ (fun _ => br_t rfl (br_f h2 ⟨rfl, rfl, rfl, hs, hW⟩)) (fun h => absurd (eg_nI hb) h))) (fun h => absurd (eg_nI ha) h)
    · refine xi_bad _ (fun _ => br_t rfl (xi_bad _ (fun h => absurd h h2) (fun _ => br_f (by decide) ?_))) (fun h => absurd h1 h)
      exact yi_bad _ (fun _ => br_t rfl (yi_bad _ (fun h => absurd h h2) (fun _ => br_f (by decide) ⟨rfl, rfl, rfl, hs, hW⟩))) (fun h => absurd h1 h)
  · refine xi_bad _ (fun h => absurd h h1) (fun _ => br_f (by decide) ?_)
    exact yi_bad _ (fun h => absurd h h1) (fun _ => br_f (by decide) ⟨rfl, rfl, rfl, hs, hW⟩)
def cl_e (ed : Nat → Int32) : Nat → (Nat → Int32)
  | 0 => ed
  | i + 1 => upd (cl_e ed i) i 0
theorem cl_0 {ed : Nat → Int32} : ∀ (i x : Nat), x < i → cl_e ed i x = 0 := by
  intro i
  induction i with
  | zero => intro x h; omega
  | succ i ih =>
    intro x h
    show upd (cl_e ed i) i 0 x = 0
    by_cases e : x = i
    · rw [e, pk_us]
    · rw [pk_un e]; exact ih x (by omega)
section
variable {on am bA bB ev wt sh : Int32} {ed mt bs pr qu fm mo : Nat → Int32}
theorem xi_clear {post : SX → Prop} (K : post (1023, am, bA, bB, ev, wt, sh, cl_e ed 10, mt, bs, pr, qu, fm)) : wpX_clear post (on, am, bA, bB, ev, wt, sh, ed, mt, bs, pr, qu, fm) := by
  have loop : ∀ (d j n : Nat), j + d = 10 → d < n → wX_clear_9 post 1023 am bA bB ev wt sh n (nI j) (cl_e ed j) mt bs pr qu fm := by
    intro d
    induction d with
    | zero =>
      intro j n hj hn
      obtain ⟨k, rfl⟩ : ∃ k, n = k + 1 := ⟨n - 1, by omega⟩
      have e : j = 10 := by omega
      subst e
      exact br_t (by decide) K
    | succ d ih =>
      intro j n hj hn
      obtain ⟨k, rfl⟩ : ∃ k, n = k + 1 := ⟨n - 1, by omega⟩
      have j10 : j < 10 := by omega
      refine br_f (rd_i j10) ⟨rd_v j10, ?_⟩
      rw [rd_c j10]
      exact nm_e (nm_r (nI_1 j) (ih (j + 1) k (by omega) (by omega)))
  exact ⟨11, loop 10 0 11 rfl (by decide)⟩
theorem yi_clear {post : SY → Prop} (K : post (1023, cl_e ed 10, mo)) : wpY_clear post (on, ed, mo) := by
  have loop : ∀ (d j n : Nat), j + d = 10 → d < n → wY_clear_9 post 1023 n (nI j) (cl_e ed j) mo := by
    intro d
    induction d with
    | zero =>
      intro j n hj hn
      obtain ⟨k, rfl⟩ : ∃ k, n = k + 1 := ⟨n - 1, by omega⟩
      have e : j = 10 := by omega
      subst e
      exact br_t (by decide) K
    | succ d ih =>
      intro j n hj hn
      obtain ⟨k, rfl⟩ : ∃ k, n = k + 1 := ⟨n - 1, by omega⟩
      have j10 : j < 10 := by omega
      refine br_f (rd_i j10) ⟨rd_v j10, ?_⟩
      rw [rd_c j10]
      exact nm_e (nm_r (nI_1 j) (ih (j + 1) k (by omega) (by omega)))
  exact ⟨11, loop 10 0 11 rfl (by decide)⟩
theorem xi_bits {post : Int32 → Prop} {s : Int32} (K : post (nI (mg_cn (bt s) 10))) : wpX_bits post s := by
  have loop : ∀ (d j n : Nat), j + d = 10 → d < n → wX_bits_4 post s n (nI (mg_cn (bt s) j)) (nI j) := by
    intro d
    induction d with
    | zero =>
      intro j n hj hn
      obtain ⟨k, rfl⟩ : ∃ k, n = k + 1 := ⟨n - 1, by omega⟩
      have e : j = 10 := by omega
      subst e
      exact br_t (by decide) K
    | succ d ih =>
      intro j n hj hn
      obtain ⟨k, rfl⟩ : ∃ k, n = k + 1 := ⟨n - 1, by omega⟩
      have j10 : j < 10 := by omega
      have e : nI (mg_cn (bt s) j) + ((s >>> (nI j &&& 31)) &&& 1) = nI (mg_cn (bt s) (j + 1)) := by
        rw [xb_bit s (by omega)]
        show _ = nI (mg_cn (bt s) j + (if bt s j = true then 1 else 0))
        cases bt s j
        · exact Int32.add_zero _
        · exact nI_1 _
      exact br_f (rd_i j10) (nm_r e (nm_r (nI_1 j) (ih (j + 1) k (by omega) (by omega))))
  exact ⟨11, loop 10 0 11 rfl (by decide)⟩
theorem yi_count {post : Int32 → Prop} {s : Int32} (K : post (nI (mg_cn (bt s) 10))) : wpY_count post (on, ed, mo) s := by
  have loop : ∀ (d j n : Nat), j + d = 10 → d < n → wY_count_4 post s on ed mo n (nI (mg_cn (bt s) j)) (nI j) := by
    intro d
    induction d with
    | zero =>
      intro j n hj hn
      obtain ⟨k, rfl⟩ : ∃ k, n = k + 1 := ⟨n - 1, by omega⟩
      have e : j = 10 := by omega
      subst e
      exact br_t (by decide) K
    | succ d ih =>
      intro j n hj hn
      obtain ⟨k, rfl⟩ : ∃ k, n = k + 1 := ⟨n - 1, by omega⟩
      have j10 : j < 10 := by omega
      have e : nI (mg_cn (bt s) j) + ((s >>> (nI j &&& 31)) &&& 1) = nI (mg_cn (bt s) (j + 1)) := by
        rw [xb_bit s (by omega)]
        show _ = nI (mg_cn (bt s) j + (if bt s j = true then 1 else 0))
        cases bt s j
        · exact Int32.add_zero _
        · exact nI_1 _
      exact br_f (rd_i j10) (nm_r e (nm_r (nI_1 j) (ih (j + 1) k (by omega) (by omega))))
  exact ⟨11, loop 10 0 11 rfl (by decide)⟩
/-- the table's entry of a set -/
theorem yt_at (hT : yt_T ed mo 1024) {s : Int32} (hs : xb_sm s) {k : Nat} (h : mg_mx (gr_G ed s) k) : mo s.toNatClampNeg = nI k ∧ vp_in s 1024 := by
  obtain ⟨a, a1, a2, a3, a4⟩ := xb_sm_nI hs
  obtain ⟨k', h1, h2⟩ := hT s hs (by omega)
  rw [h1, mg_mx_u h2 h]
  exact ⟨rfl, a4⟩
theorem yt_ex (hT : yt_T ed mo 1024) {s : Int32} (hs : xb_sm s) : ∃ k, mg_mx (gr_G ed s) k ∧ mo s.toNatClampNeg = nI k ∧ vp_in s 1024 ∧ k ≤ 5 := by
  obtain ⟨a, a1, a2, a3, a4⟩ := xb_sm_nI hs
  obtain ⟨k', h1, h2⟩ := hT s hs (by omega)
  exact ⟨k', h2, h1, a4, mg_mx_le h2⟩
end
theorem i_vc_clear {k : Nat} {u : SX} {v : SY} (I : i_Rel k u v) (hk : k + 4 ≤ 2048) : wpX_clear (fun u' => wpY_clear (fun v' => i_Rel (k + 4) u' v') v) u := by
  obtain ⟨on, am, bA, bB, ev, wt, sh, ed, mt, bs, pr, qu, fm⟩ := u
  obtain ⟨on2, ed2, mo⟩ := v
  obtain ⟨rfl, rfl, hs, hW⟩ := I
  refine xi_clear (yi_clear ⟨rfl, rfl, xb_sm_1023, fun x hx => ⟨fun y hy => ?_, ?_, fun j _ => ?_⟩⟩)
  · rw [cl_0 10 x hx, cl_0 10 y hy, b_0, b_0]
  · rw [cl_0 10 x hx, b_0]
  · rw [cl_0 10 x hx, b_0]
theorem i_vc_size {k : Nat} {u : SX} {v : SY} (I : i_Rel k u v) (hk : k + 4 ≤ 2048) : wpX_size (fun r u' => wpY_size (fun r' v' => r' = r ∧ i_Rel (k + 4) u' v') v) u := by
  obtain ⟨on, am, bA, bB, ev, wt, sh, ed, mt, bs, pr, qu, fm⟩ := u
  obtain ⟨on2, ed2, mo⟩ := v
  obtain ⟨rfl, rfl, hs, hW⟩ := I
  unfold wpX_size wpY_size
  dsimp only
  refine xs_sizeAmong hW (fun c m ev wt sh mt bs pr qu h1 h2 h3 h4 => ?_)
  refine yi_fill hW (fun mo' hT => ?_)
  obtain ⟨e1, e2⟩ := yt_at hT hs h4
  exact ⟨e2, e1, rfl, rfl, hs, hW⟩
theorem i_vc_missed {k : Nat} {u : SX} {v : SY} (I : i_Rel k u v) (hk : k + 4 ≤ 2048) : wpX_missed (fun r u' => wpY_missed (fun r' v' => r' = r ∧ i_Rel (k + 4) u' v') v) u := by
  obtain ⟨on, am, bA, bB, ev, wt, sh, ed, mt, bs, pr, qu, fm⟩ := u
  obtain ⟨on2, ed2, mo⟩ := v
  obtain ⟨rfl, rfl, hs, hW⟩ := I
  unfold wpX_missed wpY_missed
  dsimp only
  refine xs_sizeAmong hW (fun c m ev wt sh mt bs pr qu h1 h2 h3 h4 => xi_bits ?_)
  refine yi_fill hW (fun mo' hT => yi_count ?_)
  obtain ⟨e1, e2⟩ := yt_at hT hs h4
  exact ⟨e2, by show nI (mg_cn (bt on2) 10) - 2 * mo' on2.toNatClampNeg = nI (mg_cn (bt on2) 10) - 2 * nI c; rw [e1], rfl, rfl, hs, hW⟩
end
section
/-! ===== parts of the graph ===== -/
def pt_b (ed : Nat → Int32) (fr : Int32) (v : Nat) : Prop := ∃ u, u < 10 ∧ bt fr u = true ∧ bt (ed v) u = true
def pt_V (ed : Nat → Int32) (on fr : Int32) (v : Nat) (x : Int32) : Prop := (x = 0 ∧ bt on v = false) ∨ (x = 1 ∧ bt on v = true ∧ bt fr v = true) ∨ (x = 2 ∧ bt on v = true ∧ bt fr v = false ∧ pt_b ed fr v) ∨ (x = 3 ∧ bt on v = true ∧ bt fr v = false ∧ ¬ pt_b ed fr v)
theorem pt_ft {b : Bool} (h1 : b = false) (h2 : b = true) : False := by rw [h1] at h2; exact absurd h2 (by decide)
theorem pt_u {ed : Nat → Int32} {on fr : Int32} {v : Nat} {x y : Int32} (h : pt_V ed on fr v x) (h2 : pt_V ed on fr v y) : x = y := by
  rcases h with ⟨a1, a2⟩ | ⟨a1, a2, a3⟩ | ⟨a1, a2, a3, a4⟩ | ⟨a1, a2, a3, a4⟩ <;> rcases h2 with ⟨b1, b2⟩ | ⟨b1, b2, b3⟩ | ⟨b1, b2, b3, b4⟩ | ⟨b1, b2, b3, b4⟩ <;> first | exact a1.trans b1.symm | exact (pt_ft a2 b2).elim | exact (pt_ft b2 a2).elim | exact (pt_ft a3 b3).elim | exact (pt_ft b3 a3).elim | exact absurd a4 b4 | exact absurd b4 a4
section
variable {on am bA bB ev wt sh : Int32} {ed mt bs pr qu fm mo : Nat → Int32}
theorem xi_border {post : Int32 → Prop} {fr : Int32} (K : ∀ bo, (∀ j, bt bo j = true ↔ ((∃ u, u < 10 ∧ bt fr u = true ∧ bt (ed u) j = true) ∧ bt on j = true ∧ bt fr j = false)) → post bo) : wpX_borderVertices post (on, am, bA, bB, ev, wt, sh, ed, mt, bs, pr, qu, fm) fr := by
  have loop : ∀ (d j n : Nat) (set : Int32), j + d = 10 → d < n → (∀ x, bt set x = true ↔ ∃ u, u < j ∧ bt fr u = true ∧ bt (ed u) x = true) → wX_borderVertices_4 post fr on am bA bB ev wt sh ed mt bs pr qu fm n set (nI j) := by
    intro d
    induction d with
    | zero =>
      intro j n set hj hn hi
      obtain ⟨k, rfl⟩ : ∃ k, n = k + 1 := ⟨n - 1, by omega⟩
      have e : j = 10 := by omega
      subst e
      refine br_t (by decide) (K _ (fun x => ?_))
      rw [xb_andn, b_and, Bool.and_eq_true, Bool.and_eq_true, hi x, Bool.not_eq_true', and_assoc]
    | succ d ih =>
      intro j n set hj hn hi
      obtain ⟨k, rfl⟩ : ∃ k, n = k + 1 := ⟨n - 1, by omega⟩
      have j10 : j < 10 := by omega
      refine br_f (rd_i j10) (xb_inX j rfl (by omega) (fun h => nm_r (nI_1 j) (ih (j + 1) k set (by omega) (by omega) (fun x => ?_))) (fun h => ⟨rd_v j10, ?_⟩))
      · rw [hi x]
        constructor
        · rintro ⟨u, h1, h2⟩; exact ⟨u, by omega, h2⟩
        · rintro ⟨u, h1, h2, h3⟩
          refine ⟨u, ?_, h2, h3⟩
          by_cases e : u = j
          · rw [e] at h2; exact (pt_ft h h2).elim
          · omega
      · rw [rd_c j10]
        refine nm_e (nm_r (nI_1 j) (ih (j + 1) k _ (by omega) (by omega) (fun x => ?_)))
        rw [b_or, Bool.or_eq_true, hi x]
        constructor
        · rintro (⟨u, h1, h2⟩ | h1)
          · exact ⟨u, by omega, h2⟩
          · exact ⟨j, by omega, h, h1⟩
        · rintro ⟨u, h1, h2, h3⟩
          by_cases e : u = j
          · rw [e] at h3; exact Or.inr h3
          · exact Or.inl ⟨u, by omega, h2, h3⟩
  exact ⟨11, loop 10 0 11 0 rfl (by decide) (fun x => by
    rw [b_0]
    constructor
    · intro h; exact absurd h (by decide)
    · rintro ⟨u, h, _⟩; omega)⟩
theorem yt_fr (hs : xb_sm on) (hT : yt_T ed mo 1024) {k : Nat} {fr : Int32} (hk : mg_mx (gr_G ed on) k) (hD : fv_D ed on k fr) {u : Nat} (hu : u < 10) (hon : bt on u = true) :
    vp_in (on &&& (((1 : Int32) <<< (nI u &&& 31)) ^^^ (-1))) 1024 ∧ vp_in on 1024 ∧ ∃ k1, mo (on &&& (((1 : Int32) <<< (nI u &&& 31)) ^^^ (-1))).toNatClampNeg = nI k1 ∧ mo on.toNatClampNeg = nI k ∧ k1 ≤ k ∧ k ≤ 5 ∧ (k1 = k ↔ bt fr u = true) := by
  obtain ⟨k1, c1, c2, c3, c4⟩ := yt_ex hT (xb_sm_and (t := ((1 : Int32) <<< (nI u &&& 31)) ^^^ (-1)) hs)
  obtain ⟨e1, e2⟩ := yt_at hT hs hk
  refine ⟨c3, e2, k1, c2, e1, mg_mx_mono (fun x y h => ((gr_clr hu x y).mp h).1) c1 hk, mg_mx_le hk, ?_⟩
  rw [hD.2 u hu]
  constructor
  · intro e; rw [e] at c1; exact ⟨hon, c1⟩
  · rintro ⟨_, h⟩; exact mg_mx_u c1 h
theorem fv_on {k : Nat} {fr : Int32} (hD : fv_D ed on k fr) {u : Nat} (h : bt fr u = true) : u < 10 ∧ bt on u = true := by
  have hu : u < 10 := by
    rcases Nat.lt_or_ge u 10 with h2 | h2
    · exact h2
    · rw [hD.1 u h2] at h; exact absurd h (by decide)
  exact ⟨hu, ((hD.2 u hu).mp h).1⟩
theorem yi_partOf0 {v : Nat} (hv : v < 10) (h : bt on v = false) {post : Int32 → Prop} (K : post 0) : wpY_partOf post (on, ed, mo) (nI v) := by
  unfold wpY_partOf
  dsimp only
  exact xb_inY v rfl (by omega) (fun _ => K) (fun h2 => (pt_ft h h2).elim)
theorem yi_partOf (hs : xb_sm on) (hT : yt_T ed mo 1024) {k : Nat} {fr : Int32} (hk : mg_mx (gr_G ed on) k) (hD : fv_D ed on k fr) {v : Nat} (hv : v < 10) {post : Int32 → Prop} (K : ∀ x, pt_V ed on fr v x → post x) : wpY_partOf post (on, ed, mo) (nI v) := by
  unfold wpY_partOf
  dsimp only
  refine xb_inY v rfl (by omega) (fun h => K 0 (Or.inl ⟨rfl, h⟩)) (fun h => ?_)
  obtain ⟨p1, p2, k1, p3, p4, p5, p6, p7⟩ := yt_fr hs hT hk hD hv h
  refine ⟨p1, p2, ?_⟩
  rw [p3, p4]
  refine pk_eq k1 k (fun e => K 1 (Or.inr (Or.inl ⟨rfl, h, p7.mp e⟩))) (fun e => ?_)
  have hfr : bt fr v = false := by
    cases hb : bt fr v
    · rfl
    · exact absurd (p7.mpr hb) e
  have loop : ∀ (d j n : Nat), j + d = 10 → d < n → (∀ u, u < j → ¬ (bt fr u = true ∧ bt (ed v) u = true)) → wY_partOf_45 post (nI v) on ed mo n (nI j) := by
    intro d
    induction d with
    | zero =>
      intro j n hj hn hi
      obtain ⟨k', rfl⟩ : ∃ k', n = k' + 1 := ⟨n - 1, by omega⟩
      have e : j = 10 := by omega
      subst e
      refine br_t (by decide) (K 3 (Or.inr (Or.inr (Or.inr ⟨rfl, h, hfr, ?_⟩))))
      rintro ⟨u, h1, h2⟩
      exact hi u h1 h2
    | succ d ih =>
      intro j n hj hn hi
      obtain ⟨k', rfl⟩ : ∃ k', n = k' + 1 := ⟨n - 1, by omega⟩
      have j10 : j < 10 := by omega
      have next : ¬ (bt fr j = true ∧ bt (ed v) j = true) → wY_partOf_45 post (nI v) on ed mo k' (nI (j + 1)) := by
        intro hne
        refine ih (j + 1) k' (by omega) (by omega) (fun u hu => ?_)
        by_cases e : u = j
        · rw [e]; exact hne
        · exact hi u (by omega)
      refine br_f (rd_i j10) ⟨rd_v hv, ?_⟩
      rw [rd_c hv]
      refine xb_inY j rfl (by omega) (fun h2 => nm_r (nI_1 j) (next ?_)) (fun h2 => ?_)
      · rintro ⟨h3, h4⟩
        rw [b_and, (fv_on hD h3).2, h4] at h2
        exact absurd h2 (by decide)
      · rw [b_and, Bool.and_eq_true] at h2
        obtain ⟨r1, r2, c1, r3, r4, r5, r6, r7⟩ := yt_fr hs hT hk hD j10 h2.1
        refine ⟨r1, r2, ?_⟩
        rw [r3, r4]
        exact pk_eq c1 k (fun e => K 2 (Or.inr (Or.inr (Or.inl ⟨rfl, h, hfr, j, j10, r7.mp e, h2.2⟩)))) (fun e => nm_r (nI_1 j) (next (fun h3 => e (r7.mpr h3.1))))
  exact ⟨11, loop 10 0 11 rfl (by decide) (fun u hu => absurd hu (by omega))⟩
theorem yi_members (hs : xb_sm on) (hT : yt_T ed mo 1024) {k : Nat} {fr : Int32} (hk : mg_mx (gr_G ed on) k) (hD : fv_D ed on k fr) {x1 : Int32} {post : Int32 → SY → Prop} (K : ∀ mask, (∀ j, bt mask j = true ↔ (j < 10 ∧ ¬ x1 ≤ 0 ∧ pt_V ed on fr j x1)) → post mask (on, ed, mo)) : ∃ n8, wY_members_8 post x1 on ed mo n8 0 0 := by
  have loop : ∀ (d j n : Nat) (mask : Int32), j + d = 10 → d < n → (∀ x, bt mask x = true ↔ (x < j ∧ ¬ x1 ≤ 0 ∧ pt_V ed on fr x x1)) → wY_members_8 post x1 on ed mo n mask (nI j) := by
    intro d
    induction d with
    | zero =>
      intro j n mask hj hn hi
      obtain ⟨k', rfl⟩ : ∃ k', n = k' + 1 := ⟨n - 1, by omega⟩
      have e : j = 10 := by omega
      subst e
      exact br_t (by decide) (K mask hi)
    | succ d ih =>
      intro j n mask hj hn hi
      obtain ⟨k', rfl⟩ : ∃ k', n = k' + 1 := ⟨n - 1, by omega⟩
      have j10 : j < 10 := by omega
      have skip : ¬ (¬ x1 ≤ 0 ∧ pt_V ed on fr j x1) → wY_members_8 post x1 on ed mo k' mask (nI (j + 1)) := by
        intro hne
        refine ih (j + 1) k' mask (by omega) (by omega) (fun x => ?_)
        rw [hi x]
        constructor
        · rintro ⟨h1, h2⟩; exact ⟨by omega, h2⟩
        · rintro ⟨h1, h2⟩
          refine ⟨?_, h2⟩
          by_cases e : x = j
          · rw [e] at h2; exact absurd h2 hne
          · omega
      refine br_f (rd_i j10) (br_c (fun h => nm_r (nI_1 j) (skip (fun e => e.1 h))) (fun h => yi_partOf hs hT hk hD j10 (fun x hx => br_c (fun e => nm_e (nm_r (nI_1 j) (ih (j + 1) k' _ (by omega) (by omega) (fun y => ?_)))) (fun e => nm_r (nI_1 j) (skip (fun e2 => e (pt_u hx e2.2)))))))
      rw [xb_set mask (by omega), Bool.or_eq_true, hi y, decide_eq_true_eq]
      constructor
      · rintro (⟨h1, h2⟩ | h1)
        · exact ⟨by omega, h2⟩
        · rw [h1]; exact ⟨by omega, h, e ▸ hx⟩
      · rintro ⟨h1, h2⟩
        by_cases e2 : y = j
        · exact Or.inr e2
        · exact Or.inl ⟨by omega, h2⟩
  exact ⟨11, loop 10 0 11 0 rfl (by decide) (fun x => by
    rw [b_0]
    constructor
    · intro h; exact absurd h (by decide)
    · rintro ⟨h, _⟩; omega)⟩
end
theorem pt_sym {ed : Nat → Int32} (hW : gr_W ed) {fr : Int32} {a : Nat} (ha : a < 10) : pt_b ed fr a ↔ ∃ u, u < 10 ∧ bt fr u = true ∧ bt (ed u) a = true := by
  constructor
  · rintro ⟨u, h1, h2, h3⟩; exact ⟨u, h1, h2, by rw [← (hW a ha).1 u h1]; exact h3⟩
  · rintro ⟨u, h1, h2, h3⟩; exact ⟨u, h1, h2, by rw [(hW a ha).1 u h1]; exact h3⟩
theorem i_vc_part {k : Nat} {u : SX} {v : SY} (I : i_Rel k u v) (hk : k + 4 ≤ 2048) (v1 : Int32) : wpX_part (fun r u' => wpY_part (fun r' v' => r' = r ∧ i_Rel (k + 4) u' v') v v1) u v1 := by
  obtain ⟨on, am, bA, bB, ev, wt, sh, ed, mt, bs, pr, qu, fm⟩ := u
  obtain ⟨on2, ed2, mo⟩ := v
  obtain ⟨rfl, rfl, hs, hW⟩ := I
  unfold wpX_part wpY_part
  dsimp only
  by_cases h1 : eg_v v1
  · obtain ⟨a, ha, rfl⟩ := h1
    -- the free vertices are what they are, whether X asks for them or not
    have hY : ∀ {c : Nat} {fr : Int32} {x : Int32} {u' : SX}, mg_mx (gr_G ed2 on2) c → fv_D ed2 on2 c fr → pt_V ed2 on2 fr a x → i_Rel (k + 4) u' (on2, ed2, mo) → (∀ mo', i_Rel (k + 4) u' (on2, ed2, mo')) → wpY_bad (fun r_1 => (r_1 = 0 → wpY_fill (fun u => match u with | (f_on_7, a_edges_8, a_most_9) => wpY_partOf (fun r_10 => r_10 = x ∧ i_Rel (k + 4) u' (f_on_7, a_edges_8, a_most_9)) (f_on_7, a_edges_8, a_most_9) (nI a)) (on2, ed2, mo)) ∧ (¬ r_1 = 0 → (-1) = x ∧ i_Rel (k + 4) u' (on2, ed2, mo))) (on2, ed2, mo) (nI a) := by
      intro c fr x u' g1 g2 g3 _ g4
      exact yi_bad _ (fun _ => br_t rfl (yi_fill hW (fun mo' hT => yi_partOf hs hT g1 g2 ha (fun y hy => ⟨pt_u hy g3, g4 mo'⟩)))) (fun h => absurd (eg_nI ha) h)
    refine xi_bad _ (fun _ => br_t rfl (xb_inX a rfl (by omega) (fun h => ?_) (fun h => ?_))) (fun h => absurd (eg_nI ha) h)
    · refine yi_bad _ (fun _ => br_t rfl (yi_fill hW (fun mo' hT => yi_partOf0 ha h ⟨rfl, rfl, rfl, hs, hW⟩))) (fun h => absurd (eg_nI ha) h)
    · refine xs_free hW (fun c fr ev wt sh mt bs pr qu g1 g2 => xi_border (fun bo hbo => xb_inX a rfl (by omega) (fun h3 => xb_inX a rfl (by omega) (fun h4 => ?_) (fun h4 => ?_)) (fun h3 => ?_)))
      · refine hY g1 g2 (Or.inr (Or.inr (Or.inr ⟨rfl, h, h3, fun hb => ?_⟩))) ⟨rfl, rfl, hs, hW⟩ (fun _ => ⟨rfl, rfl, hs, hW⟩)
        rw [(hbo a).mpr ⟨(pt_sym hW ha).mp hb, h, h3⟩] at h4
        exact absurd h4 (by decide)
      · exact hY g1 g2 (Or.inr (Or.inr (Or.inl ⟨rfl, h, h3, (pt_sym hW ha).mpr ((hbo a).mp h4).1⟩))) ⟨rfl, rfl, hs, hW⟩ (fun _ => ⟨rfl, rfl, hs, hW⟩)
      · exact hY g1 g2 (Or.inr (Or.inl ⟨rfl, h, h3⟩)) ⟨rfl, rfl, hs, hW⟩ (fun _ => ⟨rfl, rfl, hs, hW⟩)
  · refine xi_bad _ (fun h => absurd h h1) (fun _ => br_f (by decide) ?_)
    exact yi_bad _ (fun h => absurd h h1) (fun _ => br_f (by decide) ⟨rfl, rfl, rfl, hs, hW⟩)
end
section
/-! ===== members, needed, inSome, inAll, helps ===== -/
theorem xb_iff {x y : Int32} (h : ∀ j, bt x j = true ↔ bt y j = true) : x = y := xb_eq (fun j => by
  have := h j
  cases h1 : bt x j <;> cases h2 : bt y j
  · rfl
  · rw [h1, h2] at this; exact absurd (this.mpr rfl) (by decide)
  · rw [h1, h2] at this; exact absurd (this.mp rfl) (by decide)
  · rfl)
theorem xb_ex (P : Nat → Prop) : ∀ n, n ≤ 10 → ∃ s, ∀ j, bt s j = true ↔ (j < n ∧ P j) := by
  intro n
  induction n with
  | zero => intro _; exact ⟨0, fun j => by rw [b_0]; simp⟩
  | succ n ih =>
    intro hn
    obtain ⟨s, hs⟩ := ih (by omega)
    by_cases h : P n
    · refine ⟨s ||| ((1 : Int32) <<< (nI n &&& 31)), fun j => ?_⟩
      rw [xb_set s (by omega), Bool.or_eq_true, hs j, decide_eq_true_eq]
      constructor
      · rintro (⟨h1, h2⟩ | h1)
        · exact ⟨by omega, h2⟩
        · rw [h1]; exact ⟨by omega, h⟩
      · rintro ⟨h1, h2⟩
        by_cases e : j = n
        · exact Or.inr e
        · exact Or.inl ⟨by omega, h2⟩
    · refine ⟨s, fun j => ?_⟩
      rw [hs j]
      constructor
      · rintro ⟨h1, h2⟩; exact ⟨by omega, h2⟩
      · rintro ⟨h1, h2⟩
        refine ⟨?_, h2⟩
        by_cases e : j = n
        · rw [e] at h2; exact absurd h2 h
        · omega
theorem fv_ex (ed : Nat → Int32) (on : Int32) (k : Nat) : ∃ fr, fv_D ed on k fr := by
  obtain ⟨s, hs⟩ := xb_ex (fun x => bt on x = true ∧ mg_mx (gr_G ed (on &&& (((1 : Int32) <<< (nI x &&& 31)) ^^^ (-1)))) k) 10 (Nat.le_refl _)
  refine ⟨s, fun j hj => ?_, fun x hx => ?_⟩
  · cases h : bt s j
    · rfl
    · have := ((hs j).mp h).1; omega
  · rw [hs x]
    exact ⟨fun h => h.2, fun h => ⟨hx, h⟩⟩
theorem i_vc_members {k : Nat} {u : SX} {v : SY} (I : i_Rel k u v) (hk : k + 4 ≤ 2048) (v1 : Int32) : wpX_members (fun r u' => wpY_members (fun r' v' => r' = r ∧ i_Rel (k + 4) u' v') v v1) u v1 := by
  obtain ⟨on, am, bA, bB, ev, wt, sh, ed, mt, bs, pr, qu, fm⟩ := u
  obtain ⟨on2, ed2, mo⟩ := v
  obtain ⟨rfl, rfl, hs, hW⟩ := I
  unfold wpX_members wpY_members
  dsimp only
  have hbad : ((∀ fr j, ¬ (¬ v1 ≤ 0 ∧ pt_V ed2 on2 fr j v1))) → wpY_fill (fun u => match u with | (f_on_2, a_edges_3, a_most_4) => ∃ n8, wY_members_8 (fun r' v' => r' = 0 ∧ i_Rel (k + 4) (on2, am, bA, bB, ev, wt, sh, ed2, mt, bs, pr, qu, fm) v') v1 f_on_2 a_edges_3 a_most_4 n8 0 0) (on2, ed2, mo) := by
    intro hno
    refine yi_fill hW (fun mo' hT => ?_)
    obtain ⟨c, c1, c2, c3, c4⟩ := yt_ex hT hs
    obtain ⟨fr, hD⟩ := fv_ex ed2 on2 c
    refine yi_members hs hT c1 hD (fun mask hm => ⟨xb_iff (fun j => ?_), rfl, rfl, hs, hW⟩)
    rw [hm j, b_0]
    constructor
    · rintro ⟨_, h⟩; exact absurd h (hno fr j)
    · intro h; exact absurd h (by decide)
  refine br_c (fun h => hbad (fun fr j e => e.1 ?_)) (fun h => br_c (fun h3 => ?_) (fun h3 => hbad (fun fr j e => h3 ?_)))
  · rw [Int32.lt_iff_toInt_lt] at h
    rw [Int32.le_iff_toInt_le]
    have e1 : (1 : Int32).toInt = 1 := by decide
    have e0 : (0 : Int32).toInt = 0 := by decide
    omega
  · have h0 : ¬ v1 < 0 := by
      rw [Int32.lt_iff_toInt_lt] at h ⊢
      have e1 : (1 : Int32).toInt = 1 := by decide
      have e0 : (0 : Int32).toInt = 0 := by decide
      omega
    obtain ⟨j, hj, rfl⟩ := nI_of2 (n := 3) (show (3 : Int32).toInt = (3 : Nat) by decide) h0 h3
    have hj0 : j ≠ 0 := fun e => h (by rw [e]; decide)
    have hpos : ¬ nI j ≤ 0 := nI_nle (by omega) (by omega)
    refine xs_free hW (fun c fr ev wt sh mt bs pr qu g1 g2 => xi_border (fun bo hbo => ?_))
    have fin : ∀ res, (∀ y, bt res y = true ↔ (y < 10 ∧ pt_V ed2 on2 fr y (nI j))) → wpY_fill (fun u => match u with | (f_on_2, a_edges_3, a_most_4) => ∃ n8, wY_members_8 (fun r' v' => r' = res ∧ i_Rel (k + 4) (on2, on2, (-1), (-1), ev, wt, sh, ed2, mt, bs, pr, qu, fm) v') (nI j) f_on_2 a_edges_3 a_most_4 n8 0 0) (on2, ed2, mo) := by
      intro res hres
      refine yi_fill hW (fun mo' hT => yi_members hs hT g1 g2 (fun mask hm => ⟨xb_iff (fun y => ?_), rfl, rfl, hs, hW⟩))
      rw [hm y, hres y]
      exact ⟨fun h => ⟨h.1, h.2.2⟩, fun h => ⟨h.1, hpos, h.2⟩⟩
    have hfr := fun y => fv_on g2 (u := y)
    have hon10 : ∀ y, bt on2 y = true → y < 10 := by
      intro y hy
      rcases Nat.lt_or_ge y 10 with h2 | h2
      · exact h2
      · exact (pt_ft (hs y h2) hy).elim
    have n01 : ¬ (1 : Int32) = 0 := by decide
    have n12 : ¬ (1 : Int32) = 2 := by decide
    have n13 : ¬ (1 : Int32) = 3 := by decide
    have n20 : ¬ (2 : Int32) = 0 := by decide
    have n21 : ¬ (2 : Int32) = 1 := by decide
    have n23 : ¬ (2 : Int32) = 3 := by decide
    have n30 : ¬ (3 : Int32) = 0 := by decide
    have n31 : ¬ (3 : Int32) = 1 := by decide
    have n32 : ¬ (3 : Int32) = 2 := by decide
    refine br_c (fun e => fin fr (fun y => ?_)) (fun e => br_c (fun e2 => fin bo (fun y => ?_)) (fun e2 => fin _ (fun y => ?_)))
    · rw [e]
      constructor
      · intro hy; exact ⟨(hfr y hy).1, Or.inr (Or.inl ⟨rfl, (hfr y hy).2, hy⟩)⟩
      · rintro ⟨_, h | h | h | h⟩
        · exact absurd h.1 n01
        · exact h.2.2
        · exact absurd h.1 n12
        · exact absurd h.1 n13
    · rw [e2, hbo y]
      constructor
      · rintro ⟨i1, i2, i3⟩
        exact ⟨hon10 y i2, Or.inr (Or.inr (Or.inl ⟨rfl, i2, i3, (pt_sym hW (hon10 y i2)).mpr i1⟩))⟩
      · rintro ⟨hy, h | h | h | h⟩
        · exact absurd h.1 n20
        · exact absurd h.1 n21
        · exact ⟨(pt_sym hW hy).mp h.2.2.2, h.2.1, h.2.2.1⟩
        · exact absurd h.1 n23
    · have ej : j = 3 := by
        have : j ≠ 1 := fun e3 => e (by rw [e3]; decide)
        have : j ≠ 2 := fun e3 => e2 (by rw [e3]; decide)
        omega
      rw [ej, show nI 3 = 3 from by decide, xb_andn, xb_andn, Bool.and_eq_true, Bool.and_eq_true, Bool.not_eq_true', Bool.not_eq_true']
      constructor
      · rintro ⟨⟨i1, i2⟩, i3⟩
        refine ⟨hon10 y i1, Or.inr (Or.inr (Or.inr ⟨rfl, i1, i2, fun hb => ?_⟩))⟩
        exact pt_ft i3 ((hbo y).mpr ⟨(pt_sym hW (hon10 y i1)).mp hb, i1, i2⟩)
      · rintro ⟨hy, h | h | h | h⟩
        · exact absurd h.1 n30
        · exact absurd h.1 n31
        · exact absurd h.1 n32
        · refine ⟨⟨h.2.1, h.2.2.1⟩, ?_⟩
          cases hb : bt bo y
          · rfl
          · exact absurd ((pt_sym hW hy).mpr ((hbo y).mp hb).1) h.2.2.2
  · rcases e.2 with h | h | h | h <;> rw [h.1] <;> decide
section
variable {on am bA bB ev wt sh : Int32} {ed mt bs pr qu fm mo : Nat → Int32}
theorem yi_needed (hs : xb_sm on) (hT : yt_T ed mo 1024) {k : Nat} {fr : Int32} (hk : mg_mx (gr_G ed on) k) (hD : fv_D ed on k fr) {post : Int32 → SY → Prop} (K : post (nI (mg_cn (bt (on &&& (fr ^^^ (-1)))) 10)) (on, ed, mo)) : ∃ n8, wY_needed_8 post on ed mo n8 0 0 := by
  have loop : ∀ (d j n : Nat), j + d = 10 → d < n → wY_needed_8 post on ed mo n (nI (mg_cn (bt (on &&& (fr ^^^ (-1)))) j)) (nI j) := by
    intro d
    induction d with
    | zero =>
      intro j n hj hn
      obtain ⟨k', rfl⟩ : ∃ k', n = k' + 1 := ⟨n - 1, by omega⟩
      have e : j = 10 := by omega
      subst e
      exact br_t (by decide) K
    | succ d ih =>
      intro j n hj hn
      obtain ⟨k', rfl⟩ : ∃ k', n = k' + 1 := ⟨n - 1, by omega⟩
      have j10 : j < 10 := by omega
      have e0 : bt (on &&& (fr ^^^ (-1))) j = false → mg_cn (bt (on &&& (fr ^^^ (-1)))) (j + 1) = mg_cn (bt (on &&& (fr ^^^ (-1)))) j := by
        intro h
        show mg_cn _ j + (if bt (on &&& (fr ^^^ (-1))) j = true then 1 else 0) = _
        rw [h]; rfl
      have e1 : bt (on &&& (fr ^^^ (-1))) j = true → mg_cn (bt (on &&& (fr ^^^ (-1)))) (j + 1) = mg_cn (bt (on &&& (fr ^^^ (-1)))) j + 1 := by
        intro h
        show mg_cn _ j + (if bt (on &&& (fr ^^^ (-1))) j = true then 1 else 0) = _
        rw [h]; rfl
      have skip : bt (on &&& (fr ^^^ (-1))) j = false → wY_needed_8 post on ed mo k' (nI (mg_cn (bt (on &&& (fr ^^^ (-1)))) j)) (nI (j + 1)) := by
        intro h
        have := ih (j + 1) k' (by omega) (by omega)
        rw [e0 h] at this
        exact this
      refine br_f (rd_i j10) (xb_inY j rfl (by omega) (fun h => nm_r (nI_1 j) (skip (by rw [xb_andn, h]; rfl))) (fun h => ?_))
      obtain ⟨r1, r2, c1, r3, r4, r5, r6, r7⟩ := yt_fr hs hT hk hD j10 h
      refine ⟨r1, r2, ?_⟩
      rw [r3, r4]
      refine pk_le k c1 (fun h2 => nm_r (nI_1 j) (skip ?_)) (fun h2 => nm_r (nI_1 _) (nm_r (nI_1 j) ?_))
      · rw [xb_andn, r7.mp (by omega), h]; rfl
      · have hf : bt fr j = false := by
          cases hb : bt fr j
          · rfl
          · have := r7.mpr hb; omega
        have := ih (j + 1) k' (by omega) (by omega)
        rw [e1 (by rw [xb_andn, hf, h]; rfl)] at this
        exact this
  exact ⟨11, loop 10 0 11 rfl (by decide)⟩
/-- an edge between two vertices that are on -/
def ne_P (ed : Nat → Int32) (on v1 v2 : Int32) : Prop := ∃ a b, a < 10 ∧ b < 10 ∧ a ≠ b ∧ v1 = nI a ∧ v2 = nI b ∧ bt (ed a) b = true ∧ bt on a = true ∧ bt on b = true
def bo_P (on v1 v2 : Int32) : Prop := ∃ a b, a < 10 ∧ b < 10 ∧ a ≠ b ∧ v1 = nI a ∧ v2 = nI b ∧ bt on a = true ∧ bt on b = true
theorem xi_noEdge {post : Int32 → Prop} (v1 v2 : Int32) (h0 : ne_P ed on v1 v2 → post 0) (h1 : ¬ ne_P ed on v1 v2 → post 1) : wpX_noEdge post (on, am, bA, bB, ev, wt, sh, ed, mt, bs, pr, qu, fm) v1 v2 := by
  unfold wpX_noEdge
  dsimp only
  by_cases h : eg_p v1 v2
  · obtain ⟨a, b, ha, hb, hab, rfl, rfl⟩ := h
    refine xi_badPair _ _ (fun _ => br_t rfl ⟨rd_v ha, ?_⟩) (fun h => absurd ⟨a, b, ha, hb, hab, rfl, rfl⟩ h)
    rw [rd_c ha]
    have hn : (bt (ed a) b = false ∨ bt on a = false ∨ bt on b = false) → ¬ ne_P ed on (nI a) (nI b) := by
      rintro h ⟨a', b', h1, h2, h3, h4, h5, h6, h7, h8⟩
      rw [← (nI_eq (by omega) (by omega)).mp h4] at h6 h7
      rw [← (nI_eq (by omega) (by omega)).mp h5] at h6 h8
      rcases h with h | h | h
      · exact pt_ft h h6
      · exact pt_ft h h7
      · exact pt_ft h h8
    exact xb_inX b rfl (by omega) (fun e => h1 (hn (Or.inl e))) (fun e => xb_inX a rfl (by omega) (fun e2 => h1 (hn (Or.inr (Or.inl e2)))) (fun e2 => xb_inX b rfl (by omega) (fun e3 => h1 (hn (Or.inr (Or.inr e3)))) (fun e3 => h0 ⟨a, b, ha, hb, hab, rfl, rfl, e, e2, e3⟩)))
  · refine xi_badPair _ _ (fun h2 => absurd h2 h) (fun _ => br_f (by decide) (h1 ?_))
    rintro ⟨a, b, i1, i2, i3, i4, i5, _⟩
    exact h ⟨a, b, i1, i2, i3, i4, i5⟩
theorem yi_bothOn {post : Int32 → Prop} (v1 v2 : Int32) (h1 : bo_P on v1 v2 → post 1) (h0 : ¬ bo_P on v1 v2 → post 0) : wpY_bothOn post (on, ed, mo) v1 v2 := by
  unfold wpY_bothOn
  dsimp only
  have hn : bo_P on v1 v2 → eg_v v1 ∧ eg_v v2 ∧ ¬ v1 = v2 := by
    rintro ⟨a, b, i1, i2, i3, i4, i5, _⟩
    exact eg_pn ⟨a, b, i1, i2, i3, i4, i5⟩
  refine yi_bad _ (fun hv => br_t rfl (yi_bad _ (fun hw => br_t rfl (br_c (fun e => h0 (fun h => (hn h).2.2 e)) (fun e => ?_))) (fun hw => br_f (by decide) (h0 (fun h => hw (hn h).2.1))))) (fun hv => br_f (by decide) (h0 (fun h => hv (hn h).1)))
  obtain ⟨a, b, ha, hb, hab, rfl, rfl⟩ := eg_pv hv hw e
  have hn2 : (bt on a = false ∨ bt on b = false) → ¬ bo_P on (nI a) (nI b) := by
    rintro h ⟨a', b', h1, h2, h3, h4, h5, h7, h8⟩
    rw [← (nI_eq (by omega) (by omega)).mp h4] at h7
    rw [← (nI_eq (by omega) (by omega)).mp h5] at h8
    rcases h with h | h
    · exact pt_ft h h7
    · exact pt_ft h h8
  exact xb_inY a rfl (by omega) (fun e2 => h0 (hn2 (Or.inl e2))) (fun e2 => xb_inY b rfl (by omega) (fun e3 => h0 (hn2 (Or.inr e3))) (fun e3 => h1 ⟨a, b, ha, hb, hab, rfl, rfl, e2, e3⟩))
end
theorem i_vc_needed {k : Nat} {u : SX} {v : SY} (I : i_Rel k u v) (hk : k + 4 ≤ 2048) : wpX_needed (fun r u' => wpY_needed (fun r' v' => r' = r ∧ i_Rel (k + 4) u' v') v) u := by
  obtain ⟨on, am, bA, bB, ev, wt, sh, ed, mt, bs, pr, qu, fm⟩ := u
  obtain ⟨on2, ed2, mo⟩ := v
  obtain ⟨rfl, rfl, hs, hW⟩ := I
  unfold wpX_needed wpY_needed
  dsimp only
  refine xs_free hW (fun c fr ev wt sh mt bs pr qu g1 g2 => xi_bits ?_)
  exact yi_fill hW (fun mo' hT => yi_needed hs hT g1 g2 ⟨rfl, rfl, rfl, hs, hW⟩)
theorem i_vc_inSome {k : Nat} {u : SX} {v : SY} (I : i_Rel k u v) (hk : k + 4 ≤ 2048) (v1 : Int32) (v2 : Int32) : wpX_inSome (fun r u' => wpY_inSome (fun r' v' => r' = r ∧ i_Rel (k + 4) u' v') v v1 v2) u v1 v2 := by
  obtain ⟨on, am, bA, bB, ev, wt, sh, ed, mt, bs, pr, qu, fm⟩ := u
  obtain ⟨on2, ed2, mo⟩ := v
  obtain ⟨rfl, rfl, hs, hW⟩ := I
  unfold wpX_inSome wpY_inSome
  dsimp only
  by_cases h : ne_P ed2 on2 v1 v2
  · obtain ⟨a, b, ha, hb, hab, rfl, rfl, e1, e2, e3⟩ := h
    have hbo : bo_P on2 (nI a) (nI b) := ⟨a, b, ha, hb, hab, rfl, rfl, e2, e3⟩
    refine xi_noEdge _ _ (fun _ => br_t rfl (xs_sizeAmong hW (fun c1 m1 ev wt sh mt bs pr qu _ _ _ g1 => xs_sizeAmong hW (fun c2 m2 ev wt sh mt bs pr qu _ _ _ g2 => ?_)))) (fun h => absurd ⟨a, b, ha, hb, hab, rfl, rfl, e1, e2, e3⟩ h)
    have l1 := mg_mx_le g1
    have l2 := mg_mx_le g2
    have hY : ∀ x : Int32, (x = if c2 + 1 = c1 then 1 else 0) → ∀ u', (∀ mo', i_Rel (k + 4) u' (on2, ed2, mo')) → wpY_bothOn (fun r_1 => (r_1 = 0 → 0 = x ∧ i_Rel (k + 4) u' (on2, ed2, mo)) ∧ (¬ r_1 = 0 → vp_in (nI a) 10 ∧ wpY_has (fun r_7 => (r_7 = 0 → 0 = x ∧ i_Rel (k + 4) u' (on2, ed2, mo)) ∧ (¬ r_7 = 0 → wpY_fill (fun u => wpY_without (fun r_16 => vp_in u.1 1024 ∧ ((r_16 + 1 = u.2.2 u.1.toNatClampNeg → 1 = x ∧ i_Rel (k + 4) u' (u.1, u.2.1, u.2.2)) ∧ (¬ r_16 + 1 = u.2.2 u.1.toNatClampNeg → 0 = x ∧ i_Rel (k + 4) u' (u.1, u.2.1, u.2.2)))) (u.1, u.2.1, u.2.2) (nI a) (nI b)) (on2, ed2, mo))) (on2, ed2, mo) (ed2 (nI a).toNatClampNeg) (nI b))) (on2, ed2, mo) (nI a) (nI b) := by
      intro x hx u' hu
      refine yi_bothOn _ _ (fun _ => br_f (by decide) ⟨rd_v ha, xb_inY b rfl (by omega) (fun h => ?_) (fun h => yi_fill hW (fun mo' hT => ?_))⟩) (fun h => absurd hbo h)
      · rw [rd_c ha] at h; exact (pt_ft h e1).elim
      · obtain ⟨k1, k2⟩ := yt_at hT hs g1
        obtain ⟨k3, k4⟩ := yt_at hT (xb_sm_and (xb_sm_and hs)) g2
        refine ⟨k4, k2, ?_⟩
        show (mo' _ + 1 = mo' on2.toNatClampNeg → _) ∧ (¬ mo' _ + 1 = mo' on2.toNatClampNeg → _)
        rw [k1, k3]
        exact pk_eq (c2 + 1) c1 (fun e => ⟨by rw [hx, if_pos e], hu mo'⟩) (fun e => ⟨by rw [hx, if_neg e], hu mo'⟩) (nI_1 c2)
    exact pk_eq (c2 + 1) c1 (fun e => hY 1 (by rw [if_pos e]) _ (fun _ => ⟨rfl, rfl, hs, hW⟩)) (fun e => hY 0 (by rw [if_neg e]) _ (fun _ => ⟨rfl, rfl, hs, hW⟩)) (nI_1 c2)
  · refine xi_noEdge _ _ (fun h2 => absurd h2 h) (fun _ => br_f (by decide) ?_)
    refine yi_bothOn _ _ (fun hb => br_f (by decide) ?_) (fun _ => br_t rfl ⟨rfl, rfl, rfl, hs, hW⟩)
    obtain ⟨a, b, ha, hb, hab, rfl, rfl, e2, e3⟩ := hb
    refine ⟨rd_v ha, ?_⟩
    rw [rd_c ha]
    exact xb_inY b rfl (by omega) (fun _ => ⟨rfl, rfl, rfl, hs, hW⟩) (fun e1 => absurd ⟨a, b, ha, hb, hab, rfl, rfl, e1, e2, e3⟩ h)
end
section
/-! ===== inAll, helps ===== -/
section
variable {on am bA bB ev wt sh : Int32} {ed mt bs pr qu fm mo : Nat → Int32}
theorem yi_size (hW : gr_W ed) (hs : xb_sm on) {post : Int32 → SY → Prop} (K : ∀ c mo', mg_mx (gr_G ed on) c → post (nI c) (on, ed, mo')) : wpY_size post (on, ed, mo) := by
  unfold wpY_size
  dsimp only
  refine yi_fill hW (fun mo' hT => ?_)
  obtain ⟨c, c1, c2, c3, c4⟩ := yt_ex hT hs
  refine ⟨c3, ?_⟩
  show post (mo' on.toNatClampNeg) (on, ed, mo')
  rw [c2]
  exact K c mo' c1
theorem yi_inAll (hW : gr_W ed) (hs : xb_sm on) {a b : Nat} (ha : a < 10) (hb : b < 10) (hab : a ≠ b) (e1 : bt (ed a) b = true) (e2 : bt on a = true) (e3 : bt on b = true) {post : Int32 → SY → Prop} (K : ∀ c1 c2 mo', mg_mx (gr_G ed on) c1 → mg_mx (gr_G (eg_0 ed a b) on) c2 → post (if c1 ≤ c2 then 0 else 1) (on, ed, mo')) : wpY_inAll post (on, ed, mo) (nI a) (nI b) := by
  unfold wpY_inAll
  dsimp only
  refine yi_bothOn _ _ (fun _ => br_f (by decide) ⟨rd_v ha, ?_⟩) (fun h => absurd ⟨a, b, ha, hb, hab, rfl, rfl, e2, e3⟩ h)
  rw [rd_c ha]
  refine xb_inY b rfl (by omega) (fun h => (pt_ft h e1).elim) (fun _ => yi_size hW hs (fun c1 mo1 g1 => yi_put ha hb (fun _ => yi_size (eg_W0 hW ha hb hab) hs (fun c2 mo2 g2 => yi_put ha hb (fun e => absurd e (by decide)) (fun _ => ?_))) (fun e => absurd rfl e)))
  have l1 := mg_mx_le g1
  have l2 := mg_mx_le g2
  have eE : eg_1 (eg_0 ed a b) a b = ed := by rw [eg_10 ha hb hab, eg_1s hW ha hb hab e1]
  have := K c1 c2 mo2 g1 g2
  rw [eE]
  refine pk_le c1 c2 (fun h => ?_) (fun h => ?_)
  · rw [if_pos h] at this; exact this
  · rw [if_neg (by omega)] at this; exact this
theorem yi_noEdge {v1 v2 : Int32} (h : ¬ ne_P ed on v1 v2) {post : Int32 → SY → Prop} (K : post 0 (on, ed, mo)) : wpY_inAll post (on, ed, mo) v1 v2 := by
  unfold wpY_inAll
  dsimp only
  refine yi_bothOn _ _ (fun hb => br_f (by decide) ?_) (fun _ => br_t rfl K)
  obtain ⟨a, b, ha, hb, hab, rfl, rfl, e2, e3⟩ := hb
  refine ⟨rd_v ha, ?_⟩
  rw [rd_c ha]
  exact xb_inY b rfl (by omega) (fun _ => K) (fun e1 => absurd ⟨a, b, ha, hb, hab, rfl, rfl, e1, e2, e3⟩ h)
theorem yi_helps (hW : gr_W ed) (hs : xb_sm on) {a b : Nat} (ha : a < 10) (hb : b < 10) (hab : a ≠ b) (e1 : bt (ed a) b = false) (e2 : bt on a = true) (e3 : bt on b = true) {post : Int32 → SY → Prop} (K : ∀ c1 c2 mo', mg_mx (gr_G ed on) c1 → mg_mx (gr_G ed ((on &&& (((1 : Int32) <<< (nI a &&& 31)) ^^^ (-1))) &&& (((1 : Int32) <<< (nI b &&& 31)) ^^^ (-1)))) c2 → post (if c2 + 1 ≤ c1 then 0 else 1) (on, ed, mo')) : wpY_helps post (on, ed, mo) (nI a) (nI b) := by
  unfold wpY_helps
  dsimp only
  refine yi_bothOn _ _ (fun _ => br_f (by decide) ⟨rd_v ha, ?_⟩) (fun h => absurd ⟨a, b, ha, hb, hab, rfl, rfl, e2, e3⟩ h)
  rw [rd_c ha]
  refine xb_inY b rfl (by omega) (fun _ => yi_fill hW (fun mo' hT => ?_)) (fun h => (pt_ft e1 h).elim)
  obtain ⟨c1, g1, k1, k2, l1⟩ := yt_ex hT hs
  obtain ⟨c2, g2, k3, k4, l2⟩ := yt_ex hT (xb_sm_and (t := ((1 : Int32) <<< (nI b &&& 31)) ^^^ (-1)) (xb_sm_and (t := ((1 : Int32) <<< (nI a &&& 31)) ^^^ (-1)) hs))
  have := K c1 c2 mo' g1 g2
  refine ⟨k4, k2, ?_⟩
  show (mo' _ + 1 ≤ mo' on.toNatClampNeg → _) ∧ (¬ mo' _ + 1 ≤ mo' on.toNatClampNeg → _)
  rw [k1, k3]
  refine pk_le (c2 + 1) c1 (fun h => ?_) (fun h => ?_) (nI_1 c2)
  · rw [if_pos h] at this; exact this
  · rw [if_neg (by omega)] at this; exact this
theorem yi_helps0 {v1 v2 : Int32} (h : ¬ ∃ a b, a < 10 ∧ b < 10 ∧ a ≠ b ∧ v1 = nI a ∧ v2 = nI b ∧ bt (ed a) b = false ∧ bt on a = true ∧ bt on b = true) {post : Int32 → SY → Prop} (K : post 0 (on, ed, mo)) : wpY_helps post (on, ed, mo) v1 v2 := by
  unfold wpY_helps
  dsimp only
  refine yi_bothOn _ _ (fun hb => br_f (by decide) ?_) (fun _ => br_t rfl K)
  obtain ⟨a, b, ha, hb, hab, rfl, rfl, e2, e3⟩ := hb
  refine ⟨rd_v ha, ?_⟩
  rw [rd_c ha]
  exact xb_inY b rfl (by omega) (fun e1 => absurd ⟨a, b, ha, hb, hab, rfl, rfl, e1, e2, e3⟩ h) (fun _ => K)
end
theorem gr_bar {ed : Nat → Int32} {on : Int32} {a b : Nat} (ha : a < 10) (hb : b < 10) (hab : a ≠ b) (x y : Nat) : gr_B ed on (nI a) (nI b) x y ↔ gr_G (eg_0 ed a b) on x y := by
  unfold gr_B gr_G
  rw [eg_0b ha hb hab, Bool.and_eq_true, Bool.not_eq_true', decide_eq_false_iff_not]
  constructor
  · rintro ⟨⟨h1, h2, h3, h4, h5⟩, h6, h7⟩
    refine ⟨h1, h2, ⟨h3, ?_⟩, h4, h5⟩
    rintro (⟨e1, e2⟩ | ⟨e1, e2⟩)
    · exact h6 ⟨by rw [e1], by rw [e2]⟩
    · exact h7 ⟨by rw [e1], by rw [e2]⟩
  · rintro ⟨h1, h2, ⟨h3, h6⟩, h4, h5⟩
    refine ⟨⟨h1, h2, h3, h4, h5⟩, ?_, ?_⟩
    · rintro ⟨e1, e2⟩
      exact h6 (Or.inl ⟨(nI_eq (by omega) (by omega)).mp e1, (nI_eq (by omega) (by omega)).mp e2⟩)
    · rintro ⟨e1, e2⟩
      exact h6 (Or.inr ⟨(nI_eq (by omega) (by omega)).mp e1, (nI_eq (by omega) (by omega)).mp e2⟩)
theorem i_vc_inAll {k : Nat} {u : SX} {v : SY} (I : i_Rel k u v) (hk : k + 4 ≤ 2048) (v1 : Int32) (v2 : Int32) : wpX_inAll (fun r u' => wpY_inAll (fun r' v' => r' = r ∧ i_Rel (k + 4) u' v') v v1 v2) u v1 v2 := by
  obtain ⟨on, am, bA, bB, ev, wt, sh, ed, mt, bs, pr, qu, fm⟩ := u
  obtain ⟨on2, ed2, mo⟩ := v
  obtain ⟨rfl, rfl, hs, hW⟩ := I
  unfold wpX_inAll
  dsimp only
  by_cases h : ne_P ed2 on2 v1 v2
  · obtain ⟨a, b, ha, hb, hab, rfl, rfl, e1, e2, e3⟩ := h
    refine xi_noEdge _ _ (fun _ => br_t rfl (xs_sizeAmong hW (fun c1 m1 ev wt sh mt bs pr qu _ _ _ g1 => xs_matchAmong hW (fun c2 m2 ev wt sh mt bs pr qu _ _ _ g2 => ?_)))) (fun h => absurd ⟨a, b, ha, hb, hab, rfl, rfl, e1, e2, e3⟩ h)
    have g2' := mg_mx_iff (gr_bar ha hb hab) g2
    have l1 := mg_mx_le g1
    have l2 := mg_mx_le g2
    refine pk_le c1 c2 (fun h => ?_) (fun h => ?_)
    · refine yi_inAll hW hs ha hb hab e1 e2 e3 (fun d1 d2 mo' k1 k2 => ?_)
      rw [mg_mx_u k1 g1, mg_mx_u k2 g2', if_pos h]
      exact ⟨rfl, rfl, rfl, hs, hW⟩
    · refine yi_inAll hW hs ha hb hab e1 e2 e3 (fun d1 d2 mo' k1 k2 => ?_)
      rw [mg_mx_u k1 g1, mg_mx_u k2 g2', if_neg (by omega)]
      exact ⟨rfl, rfl, rfl, hs, hW⟩
  · refine xi_noEdge _ _ (fun h2 => absurd h2 h) (fun _ => br_f (by decide) ?_)
    exact yi_noEdge h ⟨rfl, rfl, rfl, hs, hW⟩
theorem i_vc_helps {k : Nat} {u : SX} {v : SY} (I : i_Rel k u v) (hk : k + 4 ≤ 2048) (v1 : Int32) (v2 : Int32) : wpX_helps (fun r u' => wpY_helps (fun r' v' => r' = r ∧ i_Rel (k + 4) u' v') v v1 v2) u v1 v2 := by
  obtain ⟨on, am, bA, bB, ev, wt, sh, ed, mt, bs, pr, qu, fm⟩ := u
  obtain ⟨on2, ed2, mo⟩ := v
  obtain ⟨rfl, rfl, hs, hW⟩ := I
  unfold wpX_helps
  dsimp only
  by_cases h : eg_p v1 v2
  · obtain ⟨a, b, ha, hb, hab, rfl, rfl⟩ := h
    have no : (bt (ed2 a) b = true ∨ bt on2 a = false ∨ bt on2 b = false) → wpY_helps (fun r' v' => r' = 0 ∧ i_Rel (k + 4) (on2, am, bA, bB, ev, wt, sh, ed2, mt, bs, pr, qu, fm) v') (on2, ed2, mo) (nI a) (nI b) := by
      intro h
      refine yi_helps0 ?_ ⟨rfl, rfl, rfl, hs, hW⟩
      rintro ⟨a', b', h1, h2, h3, h4, h5, h6, h7, h8⟩
      rw [← (nI_eq (by omega) (by omega)).mp h4] at h6 h7
      rw [← (nI_eq (by omega) (by omega)).mp h5] at h6 h8
      rcases h with h | h | h
      · exact pt_ft h6 h
      · exact pt_ft h h7
      · exact pt_ft h h8
    refine xi_badPair _ _ (fun _ => br_t rfl ⟨rd_v ha, ?_⟩) (fun h => absurd ⟨a, b, ha, hb, hab, rfl, rfl⟩ h)
    rw [rd_c ha]
    refine xb_inX b rfl (by omega) (fun e1 => xb_inX a rfl (by omega) (fun e2 => no (Or.inr (Or.inl e2))) (fun e2 => xb_inX b rfl (by omega) (fun e3 => no (Or.inr (Or.inr e3))) (fun e3 => xs_sizeAmong hW (fun c1 m1 ev wt sh mt bs pr qu _ _ _ g1 => xs_sizeAmong hW (fun c2 m2 ev wt sh mt bs pr qu _ _ _ g2 => ?_))))) (fun e1 => no (Or.inl e1))
    have l1 := mg_mx_le g1
    have hle : c2 ≤ c1 := mg_mx_mono (fun x y h => ((gr_clr ha x y).mp ((gr_clr hb x y).mp h).1).1) g2 g1
    refine pk_eq c2 c1 (fun h => ?_) (fun h => ?_)
    · refine yi_helps hW hs ha hb hab e1 e2 e3 (fun d1 d2 mo' k1 k2 => ?_)
      rw [mg_mx_u k1 g1, mg_mx_u k2 g2, if_neg (by omega)]
      exact ⟨rfl, rfl, rfl, hs, hW⟩
    · refine yi_helps hW hs ha hb hab e1 e2 e3 (fun d1 d2 mo' k1 k2 => ?_)
      rw [mg_mx_u k1 g1, mg_mx_u k2 g2, if_pos (by omega)]
      exact ⟨rfl, rfl, rfl, hs, hW⟩
  · refine xi_badPair _ _ (fun h2 => absurd h2 h) (fun _ => br_f (by decide) ?_)
    refine yi_helps0 ?_ ⟨rfl, rfl, rfl, hs, hW⟩
    rintro ⟨a, b, i1, i2, i3, i4, i5, _⟩
    exact h ⟨a, b, i1, i2, i3, i4, i5⟩
end
section
/-! ===== groups ===== -/
/-- j is reached from v within F -/
def gp_r (ed : Nat → Int32) (F : Int32) (v j : Nat) : Prop := ∀ P : Nat → Prop, P v → (∀ x y, P x → x < 10 → bt (ed x) y = true → bt F y = true → P y) → P j
theorem gp_0 {ed : Nat → Int32} {F : Int32} {v : Nat} : gp_r ed F v v := fun _ h _ => h
theorem gp_s {ed : Nat → Int32} {F : Int32} {v x y : Nat} (h : gp_r ed F v x) (hx : x < 10) (h1 : bt (ed x) y = true) (h2 : bt F y = true) : gp_r ed F v y := fun P p0 ps => ps x y (h P p0 ps) hx h1 h2
theorem gp_F {ed : Nat → Int32} {F : Int32} {v x : Nat} (hv : bt F v = true) (h : gp_r ed F v x) : bt F x = true := h (fun x => bt F x = true) hv (fun _ _ _ _ _ h => h)
/-- a set that holds v, only what is reached from it, and is closed -/
def gp_C (ed : Nat → Int32) (F : Int32) (Z : Int32) : Prop := ∀ x y, x < 10 → bt Z x = true → bt (ed x) y = true → bt F y = true → bt Z y = true
def gp_S (ed : Nat → Int32) (F : Int32) (v : Nat) (Z : Int32) : Prop := bt Z v = true ∧ ∀ x, bt Z x = true → gp_r ed F v x
theorem gp_Z {ed : Nat → Int32} {F Z : Int32} {v : Nat} (h1 : gp_S ed F v Z) (h2 : gp_C ed F Z) (j : Nat) : bt Z j = true ↔ gp_r ed F v j :=
  ⟨h1.2 j, fun h => h (fun x => bt Z x = true) h1.1 (fun x y p hx e1 e2 => h2 x y hx p e1 e2)⟩
theorem gp_cn {s t : Int32} (h : ∀ j, bt s j = true → bt t j = true) (hs : xb_sm t) (hne : t ≠ s) : mg_cn (bt s) 10 + 1 ≤ mg_cn (bt t) 10 := by
  have : ∃ a, a < 10 ∧ bt s a = false ∧ bt t a = true := by
    refine Classical.byContradiction (fun hc => hne (xb_iff (fun j => ⟨fun hj => ?_, h j⟩)))
    cases hb : bt s j
    · rcases Nat.lt_or_ge j 10 with h2 | h2
      · exact absurd ⟨j, h2, hb, hj⟩ hc
      · rw [hs j h2] at hj; exact hj
    · rfl
  obtain ⟨a, ha, h1, h2⟩ := this
  have e := mg_cn_1 (f := bt s) (g := fun x => bt s x || decide (x = a)) (n := 10) ha h1 (by simp) (fun x hx => by simp [hx])
  have e2 := mg_cn_mono (f := fun x => bt s x || decide (x = a)) (g := bt t) (n := 10) (fun x _ hx => by
    rw [Bool.or_eq_true, decide_eq_true_eq] at hx
    rcases hx with hx | hx
    · exact h x hx
    · rw [hx]; exact h2)
  omega
section
variable {on am bA bB ev wt sh : Int32} {ed mt bs pr qu fm mo : Nat → Int32}
/-- what one pass over g gives -/
def gp_P (ed : Nat → Int32) (F : Int32) (v : Nat) (g : Int32) (j : Nat) (cur : Int32) : Prop := xb_sm cur ∧ gp_S ed F v cur ∧ (∀ x, bt g x = true → bt cur x = true) ∧ ∀ u, u < j → bt g u = true → ∀ y, bt (ed u) y = true → bt F y = true → bt cur y = true
theorem gp_skip {F g cur : Int32} {v j : Nat} (h : gp_P ed F v g j cur) (hj : bt g j = false) : gp_P ed F v g (j + 1) cur := by
  obtain ⟨h1, h2, h3, h4⟩ := h
  refine ⟨h1, h2, h3, fun u hu hg => ?_⟩
  by_cases e : u = j
  · rw [e] at hg; exact (pt_ft hj hg).elim
  · exact h4 u (by omega) hg
theorem gp_add {F g cur : Int32} {v j : Nat} (hF : xb_sm F) (h : gp_P ed F v g j cur) (hj10 : j < 10) (hj : bt cur j = true) : gp_P ed F v g (j + 1) (cur ||| (ed j &&& F)) := by
  obtain ⟨h1, h2, h3, h4⟩ := h
  refine ⟨fun x hx => ?_, ⟨?_, fun x hx => ?_⟩, fun x hx => ?_, fun u hu hg y e1 e2 => ?_⟩
  · rw [b_or, b_and, h1 x hx, hF x hx, Bool.and_false]; rfl
  · rw [b_or, h2.1]; rfl
  · rw [b_or, b_and, Bool.or_eq_true, Bool.and_eq_true] at hx
    rcases hx with hx | hx
    · exact h2.2 x hx
    · exact gp_s (h2.2 j hj) hj10 hx.1 hx.2
  · rw [b_or, h3 x hx]; rfl
  · rw [b_or, b_and, Bool.or_eq_true, Bool.and_eq_true]
    by_cases e : u = j
    · rw [e] at e1; exact Or.inr ⟨e1, e2⟩
    · exact Or.inl (h4 u (by omega) hg y e1 e2)
theorem gp_start {F g : Int32} {v : Nat} (hg : xb_sm g) (h : gp_S ed F v g) : gp_P ed F v g 0 g := ⟨hg, h, fun _ h => h, fun u hu => absurd hu (by omega)⟩
theorem gp_same {F g : Int32} {v : Nat} (h : gp_P ed F v g 10 g) : gp_C ed F g := fun x y hx h1 h2 h3 => h.2.2.2 x hx h1 y h2 h3
theorem xi_g29 {post : Int32 → Prop} {J : Int32 → Int32 → Int32 → Prop} {F g : Int32} {v ps : Nat} (hF : xb_sm F) (HJ : ∀ cur, gp_P ed F v g 10 cur → J cur g (nI (ps + 1))) :
    ∀ (d j n : Nat) (cur : Int32), j + d = 10 → d < n → gp_P ed F v g j cur → wX_groupOf_29 post J F g (nI ps) on am bA bB ev wt sh ed mt bs pr qu fm n cur (nI j) := by
  intro d
  induction d with
  | zero =>
    intro j n cur hj hn hP
    obtain ⟨k, rfl⟩ : ∃ k, n = k + 1 := ⟨n - 1, by omega⟩
    have e : j = 10 := by omega
    subst e
    exact br_t (by decide) (nm_r (nI_1 ps) (HJ cur hP))
  | succ d ih =>
    intro j n cur hj hn hP
    obtain ⟨k, rfl⟩ : ∃ k, n = k + 1 := ⟨n - 1, by omega⟩
    have j10 : j < 10 := by omega
    refine br_f (rd_i j10) (xb_inX j rfl (by omega) (fun h => nm_r (nI_1 j) (ih (j + 1) k cur (by omega) (by omega) (gp_skip hP h))) (fun h => ⟨rd_v j10, ?_⟩))
    rw [rd_c j10]
    exact nm_e (nm_r (nI_1 j) (ih (j + 1) k _ (by omega) (by omega) (gp_add hF hP j10 (hP.2.2.1 j h))))
theorem xi_g10 {post : Int32 → Prop} {F : Int32} {v : Nat} (hF : xb_sm F) (K : ∀ Z, xb_sm Z → gp_S ed F v Z → gp_C ed F Z → post Z) :
    ∀ (d p n : Nat) (g bf : Int32), p + d = 10 → d < n → xb_sm g → gp_S ed F v g → (g = bf → gp_C ed F g) → (g ≠ bf → p + 1 ≤ mg_cn (bt g) 10) → wX_groupOf_10 post F on am bA bB ev wt sh ed mt bs pr qu fm n g bf (nI p) := by
  intro d
  induction d with
  | zero =>
    intro p n g bf hp hn hg hS h1 h2
    obtain ⟨k, rfl⟩ : ∃ k, n = k + 1 := ⟨n - 1, by omega⟩
    have e : p = 10 := by omega
    subst e
    have : g = bf := by
      by_cases e : g = bf
      · exact e
      · have := h2 e
        have := mg_cn_le (bt g) 10
        omega
    exact br_t (by decide) (K g hg hS (h1 this))
  | succ d ih =>
    intro p n g bf hp hn hg hS h1 h2
    obtain ⟨k, rfl⟩ : ∃ k, n = k + 1 := ⟨n - 1, by omega⟩
    have p10 : p < 10 := by omega
    refine br_f (rd_i p10) (br_c (fun e => K g hg hS (h1 e)) (fun e => ⟨11, xi_g29 hF (fun cur hP => ?_) 10 0 11 g rfl (by decide) (gp_start hg hS)⟩))
    refine ih (p + 1) k cur g (by omega) (by omega) hP.1 hP.2.1 (fun e2 => ?_) (fun e2 => ?_)
    · rw [e2] at hP ⊢; exact gp_same hP
    · have := gp_cn hP.2.2.1 hP.1 e2
      have := h2 e
      omega
theorem xi_groupOf {post : Int32 → Prop} {F : Int32} {v : Nat} (hF : xb_sm F) (hv : v < 10) (K : ∀ Z, xb_sm Z → gp_S ed F v Z → gp_C ed F Z → post Z) : wpX_groupOf post (on, am, bA, bB, ev, wt, sh, ed, mt, bs, pr, qu, fm) (nI v) F := by
  have b1 : ∀ j, bt ((1 : Int32) <<< (nI v &&& 31)) j = decide (j = v) := by
    intro j
    have := xb_set 0 (i := v) (by omega) j
    rw [b_or, b_0, Bool.false_or, Bool.false_or] at this
    exact this
  have hne : (1 : Int32) <<< (nI v &&& 31) ≠ 0 := by
    intro e
    have := b1 v
    rw [e, b_0] at this
    simp at this
  refine nm_e ⟨11, xi_g10 hF K 10 0 11 _ 0 rfl (by decide) (fun j hj => ?_) ⟨?_, fun x hx => ?_⟩ (fun e => absurd e hne) (fun _ => ?_)⟩
  · rw [b1 j, decide_eq_false (by omega)]
  · rw [b1 v]; simp
  · rw [b1 x, decide_eq_true_eq] at hx
    rw [hx]; exact gp_0
  · exact mg_cn_pos (f := bt ((1 : Int32) <<< (nI v &&& 31))) hv (by rw [b1 v]; simp)
theorem yi_h19 {post : Int32 → Prop} {J : Int32 → Int32 → Prop} {F g : Int32} {v ps : Nat} (hF : xb_sm F) (HJ : ∀ cur, gp_P ed F v g 10 cur → J cur (nI (ps + 1))) :
    ∀ (d j n : Nat) (cur : Int32), j + d = 10 → d < n → gp_P ed F v g j cur → wY_hang_19 post J F (nI ps) on ed mo n cur (nI j) := by
  intro d
  induction d with
  | zero =>
    intro j n cur hj hn hP
    obtain ⟨k, rfl⟩ : ∃ k, n = k + 1 := ⟨n - 1, by omega⟩
    have e : j = 10 := by omega
    subst e
    exact br_t (by decide) (nm_r (nI_1 ps) (HJ cur hP))
  | succ d ih =>
    intro j n cur hj hn hP
    obtain ⟨k, rfl⟩ : ∃ k, n = k + 1 := ⟨n - 1, by omega⟩
    have j10 : j < 10 := by omega
    refine br_f (rd_i j10) (xb_inY j rfl (by omega) (fun h => nm_r (nI_1 j) (ih (j + 1) k cur (by omega) (by omega) (gp_skip hP ?_))) (fun h => ⟨rd_v j10, ?_⟩))
    · cases hb : bt g j
      · rfl
      · exact (pt_ft h (hP.2.2.1 j hb)).elim
    · rw [rd_c j10]
      exact nm_e (nm_r (nI_1 j) (ih (j + 1) k _ (by omega) (by omega) (gp_add hF hP j10 h)))
theorem yi_h10 {post : Int32 → Prop} {F : Int32} {v : Nat} (hF : xb_sm F) (K : ∀ Z, xb_sm Z → gp_S ed F v Z → gp_C ed F Z → post Z) :
    ∀ (d p n : Nat) (g : Int32), p + d = 10 → d < n → xb_sm g → gp_S ed F v g → (gp_C ed F g ∨ p + 1 ≤ mg_cn (bt g) 10) → wY_hang_10 post F on ed mo n g (nI p) := by
  intro d
  induction d with
  | zero =>
    intro p n g hp hn hg hS h1
    obtain ⟨k, rfl⟩ : ∃ k, n = k + 1 := ⟨n - 1, by omega⟩
    have e : p = 10 := by omega
    subst e
    refine br_t (by decide) (K g hg hS ?_)
    rcases h1 with h1 | h1
    · exact h1
    · have := mg_cn_le (bt g) 10
      omega
  | succ d ih =>
    intro p n g hp hn hg hS h1
    obtain ⟨k, rfl⟩ : ∃ k, n = k + 1 := ⟨n - 1, by omega⟩
    have p10 : p < 10 := by omega
    refine br_f (rd_i p10) ⟨11, yi_h19 hF (fun cur hP => ?_) 10 0 11 g rfl (by decide) (gp_start hg hS)⟩
    refine ih (p + 1) k cur (by omega) (by omega) hP.1 hP.2.1 ?_
    by_cases e : cur = g
    · rw [e] at hP ⊢; exact Or.inl (gp_same hP)
    · rcases h1 with h1 | h1
      · exact absurd (xb_iff (fun j => ⟨fun h => (gp_Z hS h1 j).mpr (hP.2.1.2 j h), hP.2.2.1 j⟩)) e
      · have := gp_cn hP.2.2.1 hP.1 e
        exact Or.inr (by omega)
theorem yi_hang {post : Int32 → Prop} {F : Int32} (hF : xb_sm F) (hne : ∃ v, v < 10 ∧ bt F v = true) (K : ∀ v Z, v < 10 → bt F v = true → (∀ u, u < v → bt F u = false) → xb_sm Z → gp_S ed F v Z → gp_C ed F Z → post Z) : wpY_hang post (on, ed, mo) F := by
  unfold wpY_hang
  dsimp only
  refine yi_first hne (fun v hv h1 h2 => ?_)
  have b1 : ∀ j, bt ((1 : Int32) <<< (nI v &&& 31)) j = decide (j = v) := by
    intro j
    have := xb_set 0 (i := v) (by omega) j
    rw [b_or, b_0, Bool.false_or, Bool.false_or] at this
    exact this
  refine nm_e ⟨11, yi_h10 hF (fun Z a b c => K v Z hv h1 h2 a b c) 10 0 11 _ rfl (by decide) (fun j hj => ?_) ⟨?_, fun x hx => ?_⟩ (Or.inr ?_)⟩
  · rw [b1 j, decide_eq_false (by omega)]
  · rw [b1 v]; simp
  · rw [b1 x, decide_eq_true_eq] at hx
    rw [hx]; exact gp_0
  · exact mg_cn_pos (f := bt ((1 : Int32) <<< (nI v &&& 31))) hv (by rw [b1 v]; simp)
end
/-- L is a part of F that no edge within F leaves -/
def gp_L (ed : Nat → Int32) (F L : Int32) : Prop := xb_sm L ∧ (∀ x, bt L x = true → bt F x = true) ∧ gp_C ed F L
theorem gp_eq {ed : Nat → Int32} {F L : Int32} {v : Nat} (hL : gp_L ed F L) (hv : bt L v = true) (j : Nat) : gp_r ed L v j ↔ gp_r ed F v j := by
  constructor
  · intro h
    exact h (gp_r ed F v) gp_0 (fun x y p hx e1 e2 => gp_s p hx e1 (hL.2.1 y e2))
  · intro h
    exact h (gp_r ed L v) gp_0 (fun x y p hx e1 e2 => gp_s p hx e1 (hL.2.2 x y hx (gp_F hv p) e1 e2))
theorem gp_less {ed : Nat → Int32} (hW : gr_W ed) {F L Z : Int32} {v : Nat} (hL : gp_L ed F L) (hv : bt L v = true) (hS : gp_S ed F v Z) (hC : gp_C ed F Z) : gp_L ed F (L &&& (Z ^^^ (-1))) ∧ mg_cn (bt (L &&& (Z ^^^ (-1)))) 10 + 1 ≤ mg_cn (bt L) 10 := by
  have h10 : ∀ x, bt F x = true → bt L x = true → x < 10 := by
    intro x _ h
    rcases Nat.lt_or_ge x 10 with h2 | h2
    · exact h2
    · exact (pt_ft (hL.1 x h2) h).elim
  refine ⟨⟨xb_sm_and hL.1, fun x hx => ?_, fun x y hx h1 h2 h3 => ?_⟩, gp_cn (fun j hj => ?_) hL.1 (fun e => ?_)⟩
  · rw [xb_andn, Bool.and_eq_true] at hx
    exact hL.2.1 x hx.1
  · rw [xb_andn, Bool.and_eq_true, Bool.not_eq_true'] at h1 ⊢
    have hy := hL.2.2 x y hx h1.1 h2 h3
    refine ⟨hy, ?_⟩
    cases hb : bt Z y
    · rfl
    · have hy10 := h10 y h3 hy
      have := hC y x hy10 hb (by rw [← (hW x hx).1 y hy10]; exact h2) (hL.2.1 x h1.1)
      exact (pt_ft h1.2 this).elim
  · rw [xb_andn, Bool.and_eq_true] at hj
    exact hj.1
  · have : bt (L &&& (Z ^^^ (-1))) v = true := by rw [← e]; exact hv
    rw [xb_andn, hS.1, Bool.not_true, Bool.and_false] at this
    exact absurd this (by decide)
section
variable {on am bA bB ev wt sh : Int32} {ed mt bs pr qu fm mo : Nat → Int32}
/-- the number of groups, for both sides at once -/
theorem gp_both (hW : gr_W ed) {F : Int32} (hF : xb_sm F) : ∀ (c : Nat) (L : Int32), mg_cn (bt L) 10 ≤ c → gp_L ed F L → ∃ N, (∀ (postX : Int32 → SX → Prop) (s j n : Nat), (∀ u, u < j → bt L u = false) → j ≤ 10 → 10 - j < n → postX (nI (s + N)) (on, am, bA, bB, ev, wt, sh, ed, mt, bs, pr, qu, fm) → wX_groups_12 postX F on am bA bB ev wt sh ed mt bs pr qu fm n L (nI s) (nI j)) ∧ (∀ (mo : Nat → Int32) (postY : Int32 → SY → Prop) (s k n : Nat), c + k ≤ 10 → 10 - k < n → postY (nI (s + N)) (on, ed, mo) → wY_groups_10 postY on ed mo n L (nI s) (nI k)) := by
  -- nothing left
  have zX : ∀ (L : Int32), (∀ u, bt L u = false) → ∀ (postX : Int32 → SX → Prop) (s d j n : Nat), j + d = 10 → d < n → postX (nI s) (on, am, bA, bB, ev, wt, sh, ed, mt, bs, pr, qu, fm) → wX_groups_12 postX F on am bA bB ev wt sh ed mt bs pr qu fm n L (nI s) (nI j) := by
    intro L hL postX s d
    induction d with
    | zero =>
      intro j n hj hn hp
      obtain ⟨k, rfl⟩ : ∃ k, n = k + 1 := ⟨n - 1, by omega⟩
      have e : j = 10 := by omega
      subst e
      exact br_t (by decide) hp
    | succ d ih =>
      intro j n hj hn hp
      obtain ⟨k, rfl⟩ : ∃ k, n = k + 1 := ⟨n - 1, by omega⟩
      exact br_f (rd_i (by omega)) (xb_inX j rfl (by omega) (fun h => nm_r (nI_1 j) (ih (j + 1) k (by omega) (by omega) hp)) (fun h => (pt_ft (hL j) h).elim))
  have zY : ∀ (mo : Nat → Int32) (postY : Int32 → SY → Prop) (s d j n : Nat), j + d = 10 → d < n → postY (nI s) (on, ed, mo) → wY_groups_10 postY on ed mo n 0 (nI s) (nI j) := by
    intro mo postY s d
    induction d with
    | zero =>
      intro j n hj hn hp
      obtain ⟨k, rfl⟩ : ∃ k, n = k + 1 := ⟨n - 1, by omega⟩
      have e : j = 10 := by omega
      subst e
      exact br_t (by decide) hp
    | succ d ih =>
      intro j n hj hn hp
      obtain ⟨k, rfl⟩ : ∃ k, n = k + 1 := ⟨n - 1, by omega⟩
      exact br_f (rd_i (by omega)) (br_t rfl (nm_r (nI_1 j) (ih (j + 1) k (by omega) (by omega) hp)))
  intro c
  induction c with
  | zero =>
    intro L hc hL
    have h0 : ∀ u, bt L u = false := by
      intro u
      cases hb : bt L u
      · rfl
      · rcases Nat.lt_or_ge u 10 with h | h
        · have := mg_cn_pos (f := bt L) h hb; omega
        · exact (pt_ft (hL.1 u h) hb).elim
    have e0 : L = 0 := xb_eq (fun j => by rw [h0 j, b_0])
    refine ⟨0, fun postX s j n _ hj hn hp => zX L h0 postX s (10 - j) j n (by omega) (by omega) hp, fun mo postY s k n hk hn hp => ?_⟩
    rw [e0]
    exact zY mo postY s (10 - k) k n (by omega) (by omega) hp
  | succ c ih =>
    intro L hc hL
    by_cases hex : ∃ v, v < 10 ∧ bt L v = true
    · -- the first one and its group
      obtain ⟨v, hv, hvL, hmin⟩ : ∃ v, v < 10 ∧ bt L v = true ∧ ∀ u, u < v → bt L u = false := by
        have hall : ∀ n, n ≤ 10 → (∃ v, v < 10 ∧ bt L v = true ∧ ∀ u, u < v → bt L u = false) ∨ ∀ u, u < n → bt L u = false := by
          intro n
          induction n with
          | zero => intro _; exact Or.inr (fun u hu => absurd hu (by omega))
          | succ n ihn =>
            intro hn
            rcases ihn (by omega) with h | h
            · exact Or.inl h
            · cases hb : bt L n
              · refine Or.inr (fun u hu => ?_)
                by_cases e : u = n
                · rw [e]; exact hb
                · exact h u (by omega)
              · exact Or.inl ⟨n, by omega, hb, h⟩
        rcases hall 10 (Nat.le_refl _) with h | h
        · exact h
        · obtain ⟨v, h1, h2⟩ := hex
          exact (pt_ft (h v h1) h2).elim
      obtain ⟨Z, hZ⟩ := xb_ex (gp_r ed F v) 10 (Nat.le_refl _)
      have hFv := hL.2.1 v hvL
      have hr10 : ∀ j, gp_r ed F v j → j < 10 := by
        intro j h
        rcases Nat.lt_or_ge j 10 with h2 | h2
        · exact h2
        · exact (pt_ft (hF j h2) (gp_F hFv h)).elim
      have hZ' : ∀ j, bt Z j = true ↔ gp_r ed F v j := fun j => (hZ j).trans ⟨fun h => h.2, fun h => ⟨hr10 j h, h⟩⟩
      have hS : gp_S ed F v Z := ⟨(hZ' v).mpr gp_0, fun x hx => (hZ' x).mp hx⟩
      have hC : gp_C ed F Z := fun x y hx h1 h2 h3 => (hZ' y).mpr (gp_s ((hZ' x).mp h1) hx h2 h3)
      obtain ⟨hL', hcn⟩ := gp_less hW hL hvL hS hC
      obtain ⟨N, hX, hY⟩ := ih (L &&& (Z ^^^ (-1))) (by omega) hL'
      have hsub : ∀ u, bt L u = false → bt (L &&& (Z ^^^ (-1))) u = false := fun u h => by rw [xb_andn, h]; rfl
      refine ⟨N + 1, fun postX s j n hmem hj hn hp => ?_, fun mo postY s k n hk hn hp => ?_⟩
      · have hjv : j ≤ v := by
          rcases Nat.lt_or_ge v j with h | h
          · exact (pt_ft (hmem v h) hvL).elim
          · exact h
        have walk : ∀ (d j n : Nat), j + d = v → 10 - j < n → wX_groups_12 postX F on am bA bB ev wt sh ed mt bs pr qu fm n L (nI s) (nI j) := by
          intro d
          induction d with
          | zero =>
            intro j n hjd hn
            obtain ⟨k, rfl⟩ : ∃ k, n = k + 1 := ⟨n - 1, by omega⟩
            have e : j = v := by omega
            subst e
            refine br_f (rd_i hv) (xb_inX j rfl (by omega) (fun h => (pt_ft h hvL).elim) (fun _ => xi_groupOf hF hv (fun Z2 z1 z2 z3 => ?_)))
            have eZ : Z2 = Z := xb_iff (fun x => by rw [gp_Z z2 z3 x, hZ' x])
            rw [eZ]
            refine nm_e (nm_r (nI_1 s) (nm_r (nI_1 j) (hX postX (s + 1) (j + 1) k (fun u hu => ?_) (by omega) (by omega) ?_)))
            · by_cases e : u = j
              · rw [e, xb_andn, hS.1, Bool.not_true, Bool.and_false]
              · exact hsub u (hmin u (by omega))
            · have e2 : s + 1 + N = s + (N + 1) := by omega
              rw [e2]; exact hp
          | succ d ihd =>
            intro j n hjd hn
            obtain ⟨k, rfl⟩ : ∃ k, n = k + 1 := ⟨n - 1, by omega⟩
            exact br_f (rd_i (by omega)) (xb_inX j rfl (by omega) (fun _ => nm_r (nI_1 j) (ihd (j + 1) k (by omega) (by omega))) (fun h => (pt_ft (hmin j (by omega)) h).elim))
        exact walk (v - j) j n (by omega) hn
      · obtain ⟨k', rfl⟩ : ∃ k', n = k' + 1 := ⟨n - 1, by omega⟩
        have hne : L ≠ 0 := fun e => by rw [e, b_0] at hvL; exact absurd hvL (by decide)
        refine br_f (rd_i (by omega)) (br_f hne (yi_hang hL.1 hex (fun v2 Z2 i1 i2 i3 z1 z2 z3 => ?_)))
        have ev2 : v2 = v := by
          rcases Nat.lt_trichotomy v2 v with h | h | h
          · exact (pt_ft (hmin v2 h) i2).elim
          · exact h
          · exact (pt_ft (i3 v h) hvL).elim
        rw [ev2] at z2
        have eZ : Z2 = Z := xb_iff (fun x => by rw [gp_Z z2 z3 x, hZ' x, gp_eq hL hvL x])
        rw [eZ]
        refine nm_e (nm_r (nI_1 s) (nm_r (nI_1 k) (hY mo postY (s + 1) (k + 1) k' (by omega) (by omega) ?_)))
        have e2 : s + 1 + N = s + (N + 1) := by omega
        rw [e2]; exact hp
    · have h0 : ∀ u, bt L u = false := by
        intro u
        cases hb : bt L u
        · rfl
        · rcases Nat.lt_or_ge u 10 with h | h
          · exact absurd ⟨u, h, hb⟩ hex
          · exact (pt_ft (hL.1 u h) hb).elim
      have e0 : L = 0 := xb_eq (fun j => by rw [h0 j, b_0])
      refine ⟨0, fun postX s j n _ hj hn hp => zX L h0 postX s (10 - j) j n (by omega) (by omega) hp, fun mo postY s k n hk hn hp => ?_⟩
      rw [e0]
      exact zY mo postY s (10 - k) k n (by omega) (by omega) hp
end
theorem i_vc_groups {k : Nat} {u : SX} {v : SY} (I : i_Rel k u v) (hk : k + 4 ≤ 2048) : wpX_groups (fun r u' => wpY_groups (fun r' v' => r' = r ∧ i_Rel (k + 4) u' v') v) u := by
  obtain ⟨on, am, bA, bB, ev, wt, sh, ed, mt, bs, pr, qu, fm⟩ := u
  obtain ⟨on2, ed2, mo⟩ := v
  obtain ⟨rfl, rfl, hs, hW⟩ := I
  unfold wpX_groups wpY_groups wpY_members
  dsimp only
  refine xs_free hW (fun c fr ev wt sh mt bs pr qu g1 g2 => ?_)
  have hLF : gp_L ed2 fr fr := ⟨g2.1, fun _ h => h, fun x y _ _ _ h => h⟩
  obtain ⟨N, hX, hY⟩ := gp_both (on := on2) (am := on2) (bA := (-1)) (bB := (-1)) (ev := ev) (wt := wt) (sh := sh) (mt := mt) (bs := bs) (pr := pr) (qu := qu) (fm := fm) hW g2.1 10 fr (mg_cn_le _ _) hLF
  refine ⟨11, hX _ 0 0 11 (fun u hu => absurd hu (by omega)) (by omega) (by omega) ?_⟩
  refine yi_fill hW (fun mo' hT => yi_members hs hT g1 g2 (fun mask hm => ?_))
  have em : mask = fr := by
    refine xb_iff (fun y => ?_)
    rw [hm y]
    constructor
    · rintro ⟨_, _, h | h | h | h⟩
      · exact absurd h.1 (by decide)
      · exact h.2.2
      · exact absurd h.1 (by decide)
      · exact absurd h.1 (by decide)
    · intro h
      exact ⟨(fv_on g2 h).1, by decide, Or.inr (Or.inl ⟨rfl, (fv_on g2 h).2, h⟩)⟩
  rw [em]
  exact ⟨11, hY mo' _ 0 0 11 (by omega) (by omega) ⟨rfl, rfl, rfl, hs, hW⟩⟩
end
section
/-! ===== partners of the first greatest matching ===== -/
abbrev xc (L : Int32) (j : Nat) : Int32 := L &&& (((1 : Int32) <<< (nI j &&& 31)) ^^^ (-1))
theorem mx_ex {ed : Nat → Int32} (hW : gr_W ed) : ∀ (n : Nat) (s : Int32), xb_sm s → s.toNatClampNeg < n → ∃ k, mg_mx (gr_G ed s) k := by
  intro n
  induction n with
  | zero => intro s _ h; omega
  | succ n ih =>
    intro s hs hn
    by_cases hex : ∃ v, v < 10 ∧ bt s v = true
    · obtain ⟨v, hv, hb⟩ := hex
      have hs1 : xb_sm (xc s v) := xb_sm_and hs
      have l1 : (xc s v).toNatClampNeg < s.toNatClampNeg := xb_clt hs hv hb
      obtain ⟨c0, hc0⟩ := ih (xc s v) hs1 (by omega)
      have step : ∀ j, j ≤ 10 → ∃ c, yc_I ed s v c j := by
        intro j
        induction j with
        | zero => intro _; exact ⟨c0, yc_0 hv hc0⟩
        | succ j ihj =>
          intro hj
          obtain ⟨c, hc⟩ := ihj (by omega)
          by_cases hg : gr_G ed s v j
          · have hb1 : bt (xc s v) j = true := by
              have hne := (gr_GG hW s _ _ hg).2.2.2
              rw [xb_clr s (by omega), hg.2.2.2.2]
              simp [Ne.symm hne]
            have l2 : (xc (xc s v) j).toNatClampNeg < (xc s v).toNatClampNeg := xb_clt hs1 (show j < 10 by omega) hb1
            obtain ⟨k, hk⟩ := ih (xc (xc s v) j) (xb_sm_and hs1) (by omega)
            by_cases hle : k + 1 ≤ c
            · exact ⟨c, yc_keep hW hg hc hk hle⟩
            · exact ⟨k + 1, yc_new hW hg hc hk (by omega)⟩
          · exact ⟨c, yc_no hc hg⟩
      obtain ⟨c, hc⟩ := step 10 (Nat.le_refl _)
      exact ⟨c, yc_end hc⟩
    · refine ⟨0, ⟨fun x => x, mg_id _, ?_⟩, fun N hN => ?_⟩
      · have h2 := mg_cn_mono (f := fun x => decide ((fun x : Nat => x) x ≠ x)) (g := fun _ => false) (n := 10) (fun x _ h => absurd rfl (of_decide_eq_true h))
        have h3 : mg_sz (fun x => x) ≤ 0 := h2
        omega
      · have h2 := mg_cn_mono (f := fun x => decide (N x ≠ x)) (g := fun _ => false) (n := 10) (fun x hx h => absurd ⟨x, hx, (hN.2 x (of_decide_eq_true h)).2.2.2.1⟩ hex)
        exact h2
theorem mx_any {ed : Nat → Int32} (hW : gr_W ed) {s : Int32} (hs : xb_sm s) : ∃ k, mg_mx (gr_G ed s) k := mx_ex hW _ s hs (Nat.lt_succ_self _)
def lp_ok (ed : Nat → Int32) (L : Int32) (v w : Nat) : Prop := w < 10 ∧ bt L w = true ∧ bt (ed v) w = true ∧ ∃ c, mg_mx (gr_G ed (xc (xc L v) w)) c ∧ mg_mx (gr_G ed L) (c + 1)
def lp_R (ed : Nat → Int32) (L : Int32) (v : Nat) (x : Int32) : Prop := (∃ w, x = nI w ∧ lp_ok ed L v w ∧ ∀ w', w' < w → ¬ lp_ok ed L v w') ∨ (x = -1 ∧ ∀ w, ¬ lp_ok ed L v w)
theorem lp_min {P : Nat → Prop} : ∀ n, P n → ∃ w, P w ∧ ∀ w', w' < w → ¬ P w' := by
  intro n
  induction n using Nat.strongRecOn with
  | ind n ih =>
    intro h
    by_cases e : ∃ k, k < n ∧ P k
    · obtain ⟨k, h1, h2⟩ := e
      exact ih k h1 h2
    · exact ⟨n, h, fun w' hw hp => e ⟨w', hw, hp⟩⟩
theorem lp_e (ed : Nat → Int32) (L : Int32) (v : Nat) : ∃ x, lp_R ed L v x := by
  by_cases h : ∃ w, lp_ok ed L v w
  · obtain ⟨w, hw⟩ := h
    obtain ⟨w0, h1, h2⟩ := lp_min w hw
    exact ⟨nI w0, Or.inl ⟨w0, rfl, h1, h2⟩⟩
  · exact ⟨-1, Or.inr ⟨rfl, fun w hw => h ⟨w, hw⟩⟩⟩
theorem lp_u {ed : Nat → Int32} {L : Int32} {v : Nat} {x y : Int32} (h1 : lp_R ed L v x) (h2 : lp_R ed L v y) : x = y := by
  rcases h1 with ⟨w, e1, k1, k2⟩ | ⟨e1, k1⟩
  · rcases h2 with ⟨w2, e2, k3, k4⟩ | ⟨e2, k3⟩
    · rcases Nat.lt_trichotomy w w2 with h | h | h
      · exact absurd k1 (k4 w h)
      · rw [e1, e2, h]
      · exact absurd k3 (k2 w2 h)
    · exact absurd k1 (k3 w)
  · rcases h2 with ⟨w2, e2, k3, k4⟩ | ⟨e2, k3⟩
    · exact absurd k3 (k1 w2)
    · rw [e1, e2]
theorem lp_none {ed : Nat → Int32} (hW : gr_W ed) {L : Int32} (hs : xb_sm L) {v c : Nat} (hv : v < 10) (hc : mg_mx (gr_G ed L) c) (h : ∀ w, ¬ lp_ok ed L v w) : mg_mx (gr_G ed (xc L v)) c := by
  obtain ⟨c', hc'⟩ := mx_any hW (s := xc L v) (xb_sm_and hs)
  have hle : c' ≤ c := mg_mx_mono (fun x y h => ((gr_clr hv x y).mp h).1) hc' hc
  have : c' = c := by
    refine Classical.byContradiction (fun hne => ?_)
    obtain ⟨⟨m, hm, hsz⟩, hmax⟩ := hc
    have hI := yc_0 hv hc'
    by_cases e : m v = v
    · have := hI.2.1 m hm e
      omega
    · have hg := hm.2 v e
      obtain ⟨c2, hc2⟩ := mx_any hW (s := xc (xc L v) (m v)) (xb_sm_and (xb_sm_and hs))
      obtain ⟨⟨m2, u1, u2⟩, u3⟩ := yc_up hW hg hc2
      have k1 := u3 m hm rfl
      have k2 := hmax m2 u1
      have e2 : c = c2 + 1 := by omega
      refine h (m v) ⟨hg.2.1, hg.2.2.2.2, hg.2.2.1, c2, hc2, ?_⟩
      rw [← e2]
      exact ⟨⟨m, hm, hsz⟩, hmax⟩
  rw [← this]; exact hc'
theorem lp_m1 {c c2 : Nat} (hc : c ≤ 5) (hc2 : c2 ≤ 5) : nI c2 = nI c - 1 ↔ c2 + 1 = c := by
  cases c with
  | zero =>
    constructor
    · intro h
      exact absurd h (by rw [nI_0]; exact xb_ne (by omega))
    · intro h; omega
  | succ c =>
    rw [nI_pred, nI_eq (by omega) (by omega)]
    omega
section
variable {on am bA bB ev wt sh : Int32} {ed mt bs pr qu fm mo : Nat → Int32}
theorem xi_fp5 (hW : gr_W ed) {L : Int32} {v c : Nat} (hv : v < 10) (hc : mg_mx (gr_G ed L) c) {post : Int32 → SX → Prop} (K : ∀ x am bA bB ev wt sh mt bs pr qu, lp_R ed L v x → post x (on, am, bA, bB, ev, wt, sh, ed, mt, bs, pr, qu, fm)) :
    ∀ (d j n : Nat) (am bA bB ev wt sh : Int32) (mt bs pr qu : Nat → Int32), j + d = 10 → d < n → (∀ w', w' < j → ¬ lp_ok ed L v w') → wX_firstPartner_5 post (nI v) L (nI c) n (nI j) on am bA bB ev wt sh ed mt bs pr qu fm := by
  intro d
  induction d with
  | zero =>
    intro j n am bA bB ev wt sh mt bs pr qu hj hn hi
    obtain ⟨k, rfl⟩ : ∃ k, n = k + 1 := ⟨n - 1, by omega⟩
    have e : j = 10 := by omega
    subst e
    refine br_t (by decide) (K (-1) am bA bB ev wt sh mt bs pr qu (Or.inr ⟨rfl, fun w hw => ?_⟩))
    exact hi w hw.1 hw
  | succ d ih =>
    intro j n am bA bB ev wt sh mt bs pr qu hj hn hi
    obtain ⟨k, rfl⟩ : ∃ k, n = k + 1 := ⟨n - 1, by omega⟩
    have j10 : j < 10 := by omega
    have next : ¬ lp_ok ed L v j → ∀ w', w' < j + 1 → ¬ lp_ok ed L v w' := by
      intro hne w' hw'
      by_cases e : w' = j
      · rw [e]; exact hne
      · exact hi w' (by omega)
    refine br_f (rd_i j10) (xb_inX j rfl (by omega) (fun h => nm_r (nI_1 j) (ih (j + 1) k am bA bB ev wt sh mt bs pr qu (by omega) (by omega) (next (fun ho => pt_ft h ho.2.1)))) (fun h => ⟨rd_v hv, ?_⟩))
    rw [rd_c hv]
    refine xb_inX j rfl (by omega) (fun h2 => nm_r (nI_1 j) (ih (j + 1) k am bA bB ev wt sh mt bs pr qu (by omega) (by omega) (next (fun ho => pt_ft h2 ho.2.2.1)))) (fun h2 => xs_sizeAmong hW (fun c2 m2 ev wt sh mt bs pr qu _ _ _ g2 => ?_))
    refine ek_if (lp_m1 (mg_mx_le hc) (mg_mx_le g2)) (fun e => K (nI j) _ _ _ _ _ _ _ _ _ _ (Or.inl ⟨j, rfl, ⟨j10, h, h2, c2, g2, by rw [e]; exact hc⟩, hi⟩)) (fun e => nm_r (nI_1 j) (ih (j + 1) k _ _ _ _ _ _ _ _ _ _ (by omega) (by omega) (next (fun ho => e ?_))))
    obtain ⟨_, _, _, c3, g3, g4⟩ := ho
    rw [mg_mx_u g2 g3, mg_mx_u hc g4]
theorem yi_least (hT : yt_T ed mo 1024) {L : Int32} (hs : xb_sm L) {v : Nat} (hv : v < 10) {post : Int32 → Prop} (K : ∀ x, lp_R ed L v x → post x) : wpY_least post (on, ed, mo) (nI v) L := by
  have loop : ∀ (d j n : Nat), j + d = 10 → d < n → (∀ w', w' < j → ¬ lp_ok ed L v w') → wY_least_2 post (nI v) L on ed mo n (nI j) := by
    intro d
    induction d with
    | zero =>
      intro j n hj hn hi
      obtain ⟨k, rfl⟩ : ∃ k, n = k + 1 := ⟨n - 1, by omega⟩
      have e : j = 10 := by omega
      subst e
      exact br_t (by decide) (K (-1) (Or.inr ⟨rfl, fun w hw => hi w hw.1 hw⟩))
    | succ d ih =>
      intro j n hj hn hi
      obtain ⟨k, rfl⟩ : ∃ k, n = k + 1 := ⟨n - 1, by omega⟩
      have j10 : j < 10 := by omega
      have next : ¬ lp_ok ed L v j → wY_least_2 post (nI v) L on ed mo k (nI (j + 1)) := by
        intro hne
        refine ih (j + 1) k (by omega) (by omega) (fun w' hw' => ?_)
        by_cases e : w' = j
        · rw [e]; exact hne
        · exact hi w' (by omega)
      refine br_f (rd_i j10) ⟨rd_v hv, ?_⟩
      rw [rd_c hv]
      refine xb_inY j rfl (by omega) (fun h => nm_r (nI_1 j) (next (fun ho => ?_))) (fun h => ?_)
      · rw [b_and, ho.2.1, ho.2.2.1] at h
        exact absurd h (by decide)
      · rw [b_and, Bool.and_eq_true] at h
        obtain ⟨c1, g1, k1, k2, l1⟩ := yt_ex hT hs
        obtain ⟨c2, g2, k3, k4, l2⟩ := yt_ex hT (xb_sm_and (t := ((1 : Int32) <<< (nI j &&& 31)) ^^^ (-1)) (xb_sm_and (t := ((1 : Int32) <<< (nI v &&& 31)) ^^^ (-1)) hs))
        refine ⟨k4, k2, ?_⟩
        rw [k1, k3]
        refine pk_eq (c2 + 1) c1 (fun e => K (nI j) (Or.inl ⟨j, rfl, ⟨j10, h.1, h.2, c2, g2, by rw [e]; exact g1⟩, hi⟩)) (fun e => nm_r (nI_1 j) (next (fun ho => e ?_))) (nI_1 c2)
        obtain ⟨_, _, _, c3, g3, g4⟩ := ho
        rw [mg_mx_u g2 g3, mg_mx_u g1 g4]
  exact ⟨11, loop 10 0 11 rfl (by decide) (fun w' hw' => absurd hw' (by omega))⟩
/-- one step of X's loop at a vertex that is left -/
theorem xf_step (hW : gr_W ed) {L : Int32} (hs : xb_sm L) {j c n : Nat} (hj : j < 10) (hjL : bt L j = true) (hmem : ∀ u, u < j → bt L u = false) (hc : mg_mx (gr_G ed L) c) {post : SX → Prop}
    (K0 : ∀ am bA bB ev wt sh mt bs pr qu, lp_R ed L j (-1) → mg_mx (gr_G ed (xc L j)) c → wX_findFirst_38 post n (xc L j) (nI c) (nI (j + 1)) on am bA bB ev wt sh ed mt bs pr qu fm)
    (K1 : ∀ w c2 am bA bB ev wt sh mt bs pr qu, lp_R ed L j (nI w) → w < 10 → w ≠ j → mg_mx (gr_G ed (xc (xc L j) w)) c2 → wX_findFirst_38 post n (xc (xc L j) w) (nI c2) (nI (j + 1)) on am bA bB ev wt sh ed mt bs pr qu (upd (upd fm j (nI w)) w (nI j))) :
    wX_findFirst_38 post (n + 1) L (nI c) (nI j) on am bA bB ev wt sh ed mt bs pr qu fm := by
  refine br_f (rd_i hj) (xb_inX j rfl (by omega) (fun h => (pt_ft h hjL).elim) (fun _ => nm_r (nI_1 j) ⟨11, xi_fp5 hW hj hc (fun x am bA bB ev wt sh mt bs pr qu hR => ?_) (10 - (j + 1)) (j + 1) 11 am bA bB ev wt sh mt bs pr qu (by omega) (by omega) (fun w' hw' ho => ?_)⟩))
  · refine nm_e ?_
    have hR' := hR
    rcases hR with ⟨w, e, hok, hmin⟩ | ⟨e, hno⟩
    · obtain ⟨w10, w1, w2, c2, g2, g3⟩ := hok
      rw [e] at hR' ⊢
      have hwj : w ≠ j := fun e2 => by rw [e2, (hW j hj).2.1] at w2; exact absurd w2 (by decide)
      have ec : c = c2 + 1 := mg_mx_u hc g3
      refine br_f (rd_x w10) ⟨rd_v hj, ?_⟩
      rw [rd_c hj, rd_c w10, ec]
      exact nm_e ⟨rd_v w10, nm_e (nm_e (nm_r (pk_m1 c2) (nm_r (nI_1 j) (K1 w c2 am bA bB ev wt sh mt bs pr qu hR' w10 hwj g2))))⟩
    · rw [e] at hR' ⊢
      exact br_t rd_n1 (nm_r (nI_1 j) (K0 am bA bB ev wt sh mt bs pr qu hR' (lp_none hW hs hj hc hno)))
  · by_cases e : w' = j
    · have := ho.2.2.1
      rw [e, (hW j hj).2.1] at this
      exact absurd this (by decide)
    · exact pt_ft (hmem w' (by omega)) ho.2.1
theorem xc_mem {L : Int32} {j : Nat} (hj : j < 10) (hmem : ∀ u, u < j → bt L u = false) : ∀ u, u < j + 1 → bt (xc L j) u = false := by
  intro u hu
  rw [xb_clr L (by omega)]
  by_cases e : u = j
  · simp [e]
  · rw [hmem u (by omega)]; rfl
theorem xc_f {L : Int32} {j u : Nat} (hj : j < 10) (h : bt L u = false) : bt (xc L j) u = false := by rw [xb_clr L (by omega), h]; rfl
theorem xc_n {L : Int32} {j : Nat} (hj : j < 10) : bt (xc L j) j = false := by rw [xb_clr L (by omega)]; simp
theorem xc_t {L : Int32} {j u : Nat} (hj : j < 10) (h : bt L u = true) (hu : u ≠ j) : bt (xc L j) u = true := by rw [xb_clr L (by omega), h]; simp [hu]
/-- X: what isn't left keeps its entry -/
theorem xf_keep (hW : gr_W ed) {t : Nat} {post : SX → Prop} : ∀ (d j n c : Nat) (L : Int32) (am bA bB ev wt sh : Int32) (mt bs pr qu fm : Nat → Int32), j + d = 10 → d < n → xb_sm L → (∀ u, u < j → bt L u = false) → mg_mx (gr_G ed L) c → bt L t = false → (∀ am bA bB ev wt sh mt bs pr qu fm', fm' t = fm t → post (on, am, bA, bB, ev, wt, sh, ed, mt, bs, pr, qu, fm')) → wX_findFirst_38 post n L (nI c) (nI j) on am bA bB ev wt sh ed mt bs pr qu fm := by
  intro d
  induction d with
  | zero =>
    intro j n c L am bA bB ev wt sh mt bs pr qu fm hj hn hs hmem hc ht K
    obtain ⟨k, rfl⟩ : ∃ k, n = k + 1 := ⟨n - 1, by omega⟩
    have e : j = 10 := by omega
    subst e
    exact br_t (by decide) (K am bA bB ev wt sh mt bs pr qu fm rfl)
  | succ d ih =>
    intro j n c L am bA bB ev wt sh mt bs pr qu fm hj hn hs hmem hc ht K
    obtain ⟨k, rfl⟩ : ∃ k, n = k + 1 := ⟨n - 1, by omega⟩
    have j10 : j < 10 := by omega
    by_cases hjL : bt L j = true
    · have htj : t ≠ j := fun e => by rw [e] at ht; exact pt_ft ht hjL
      refine xf_step hW hs j10 hjL hmem hc (fun am bA bB ev wt sh mt bs pr qu _ h2 => ?_) (fun w c2 am bA bB ev wt sh mt bs pr qu hR h1 h2 h3 => ?_)
      · exact ih (j + 1) k c _ am bA bB ev wt sh mt bs pr qu fm (by omega) (by omega) (xb_sm_and hs) (xc_mem j10 hmem) h2 (xc_f j10 ht) K
      · have hwL : bt L w = true := by
          rcases hR with ⟨w2, e, hok, _⟩ | ⟨e, _⟩
          · rw [(nI_eq (by omega) (by have := hok.1; omega)).mp e]; exact hok.2.1
          · exact absurd e (xb_ne h1)
        have htw : t ≠ w := fun e => by rw [e] at ht; exact pt_ft ht hwL
        refine ih (j + 1) k c2 _ am bA bB ev wt sh mt bs pr qu _ (by omega) (by omega) (xb_sm_and (xb_sm_and hs)) (fun u hu => xc_f h1 (xc_mem j10 hmem u hu)) h3 (xc_f h1 (xc_f j10 ht)) (fun am bA bB ev wt sh mt bs pr qu fm' e => K am bA bB ev wt sh mt bs pr qu fm' ?_)
        rw [e, pk_un htw, pk_un htj]
    · have hjf : bt L j = false := by
        cases hb : bt L j
        · rfl
        · exact absurd hb hjL
      refine br_f (rd_i j10) (xb_inX j rfl (by omega) (fun _ => nm_r (nI_1 j) (ih (j + 1) k c L am bA bB ev wt sh mt bs pr qu fm (by omega) (by omega) hs (fun u hu => ?_) hc ht K)) (fun h => absurd h hjL))
      by_cases e : u = j
      · rw [e]; exact hjf
      · exact hmem u (by omega)
/-- Y: what isn't left has none -/
theorem yf_none (hT : yt_T ed mo 1024) {t : Nat} (ht10 : t < 10) {post : Int32 → SY → Prop} (K : post (-2) (on, ed, mo)) : ∀ (d j n : Nat) (L : Int32), j + d = 10 → d < n → xb_sm L → bt L t = false → wY_partner_21 post (nI t) on ed mo n L (nI j) := by
  intro d
  induction d with
  | zero =>
    intro j n L hj hn hs ht
    obtain ⟨k, rfl⟩ : ∃ k, n = k + 1 := ⟨n - 1, by omega⟩
    have e : j = 10 := by omega
    subst e
    exact br_t (by decide) K
  | succ d ih =>
    intro j n L hj hn hs ht
    obtain ⟨k, rfl⟩ : ∃ k, n = k + 1 := ⟨n - 1, by omega⟩
    have j10 : j < 10 := by omega
    refine br_f (rd_i j10) (xb_inY j rfl (by omega) (fun _ => nm_r (nI_1 j) (ih (j + 1) k L (by omega) (by omega) hs ht)) (fun h => yi_least hT hs j10 (fun x hx => ?_)))
    have htj : j ≠ t := fun e => by rw [e] at h; exact pt_ft ht h
    refine br_f (rd_e j10 ht10 htj) ?_
    rcases hx with ⟨w, e, hok, _⟩ | ⟨e, _⟩
    · have w10 := hok.1
      have hwt : w ≠ t := fun e2 => by rw [e2] at hok; exact pt_ft ht hok.2.1
      rw [e]
      refine br_f (rd_e w10 ht10 hwt) (nm_e (br_t (rd_g w10) (nm_e (nm_r (nI_1 j) (ih (j + 1) k _ (by omega) (by omega) (xb_sm_and (xb_sm_and hs)) (xc_f w10 (xc_f j10 ht)))))))
    · rw [e]
      exact br_f (Ne.symm (xb_ne ht10)) (nm_e (br_f rd_n0 (nm_r (nI_1 j) (ih (j + 1) k _ (by omega) (by omega) (xb_sm_and hs) (xc_f j10 ht)))))
theorem pf_both (hW : gr_W ed) {t : Nat} (ht10 : t < 10) : ∀ (d j c : Nat) (L : Int32), j + d = 10 → xb_sm L → (∀ u, u < j → bt L u = false) → mg_mx (gr_G ed L) c → bt L t = true → ∃ x,
    (∀ (post : SX → Prop) (n : Nat) (am bA bB ev wt sh : Int32) (mt bs pr qu fm : Nat → Int32), d < n → fm t = -2 → (∀ am bA bB ev wt sh mt bs pr qu fm', fm' t = x → post (on, am, bA, bB, ev, wt, sh, ed, mt, bs, pr, qu, fm')) → wX_findFirst_38 post n L (nI c) (nI j) on am bA bB ev wt sh ed mt bs pr qu fm) ∧
    (∀ (mo : Nat → Int32) (post : Int32 → SY → Prop) (n : Nat), yt_T ed mo 1024 → d < n → post x (on, ed, mo) → wY_partner_21 post (nI t) on ed mo n L (nI j)) := by
  intro d
  induction d with
  | zero =>
    intro j c L hj hs hmem hc ht
    exact (pt_ft (hmem t (by omega)) ht).elim
  | succ d ih =>
    intro j c L hj hs hmem hc ht
    have j10 : j < 10 := by omega
    by_cases hjL : bt L j = true
    · obtain ⟨xw, hxw⟩ := lp_e ed L j
      have hxw' := hxw
      rcases hxw with ⟨w, e, hok, hmin⟩ | ⟨e, hno⟩
      · obtain ⟨w10, w1, w2, c2, g2, g3⟩ := hok
        rw [e] at hxw'
        have hwj : w ≠ j := fun e2 => by rw [e2, (hW j j10).2.1] at w2; exact absurd w2 (by decide)
        have huw : ∀ w', w' < 10 → lp_R ed L j (nI w') → w' = w := fun w' h1 h2 => (nI_eq (by omega) (by omega)).mp (lp_u h2 hxw')
        by_cases htj : t = j
        · subst htj
          refine ⟨nI w, fun post n am bA bB ev wt sh mt bs pr qu fm hn hf K => ?_, fun mo post n hT hn hp => ?_⟩
          · obtain ⟨k, rfl⟩ : ∃ k, n = k + 1 := ⟨n - 1, by omega⟩
            refine xf_step hW hs j10 hjL hmem hc (fun _ _ _ _ _ _ _ _ _ _ hR _ => absurd (lp_u hxw' hR) (xb_ne w10)) (fun w' c3 am bA bB ev wt sh mt bs pr qu hR h1 h2 h3 => ?_)
            have ew := huw w' h1 hR
            subst ew
            refine xf_keep hW d (t + 1) k c3 _ am bA bB ev wt sh mt bs pr qu _ (by omega) (by omega) (xb_sm_and (xb_sm_and hs)) (fun u hu => xc_f h1 (xc_mem j10 hmem u hu)) h3 (xc_f h1 (xc_n j10)) (fun am bA bB ev wt sh mt bs pr qu fm' ef => K am bA bB ev wt sh mt bs pr qu fm' ?_)
            rw [ef, pk_un (Ne.symm h2), pk_us]
          · obtain ⟨k, rfl⟩ : ∃ k, n = k + 1 := ⟨n - 1, by omega⟩
            refine br_f (rd_i j10) (xb_inY t rfl (by omega) (fun h => (pt_ft h hjL).elim) (fun _ => yi_least hT hs j10 (fun x hx => ?_)))
            rw [lp_u hx hxw']
            exact br_t rfl (br_t rfl (br_t (rd_g w10) hp))
        · by_cases htw : t = w
          · subst htw
            refine ⟨nI j, fun post n am bA bB ev wt sh mt bs pr qu fm hn hf K => ?_, fun mo post n hT hn hp => ?_⟩
            · obtain ⟨k, rfl⟩ : ∃ k, n = k + 1 := ⟨n - 1, by omega⟩
              refine xf_step hW hs j10 hjL hmem hc (fun _ _ _ _ _ _ _ _ _ _ hR _ => absurd (lp_u hxw' hR) (xb_ne w10)) (fun w' c3 am bA bB ev wt sh mt bs pr qu hR h1 h2 h3 => ?_)
              have ew := huw w' h1 hR
              subst ew
              refine xf_keep hW d (j + 1) k c3 _ am bA bB ev wt sh mt bs pr qu _ (by omega) (by omega) (xb_sm_and (xb_sm_and hs)) (fun u hu => xc_f h1 (xc_mem j10 hmem u hu)) h3 (xc_n h1) (fun am bA bB ev wt sh mt bs pr qu fm' ef => K am bA bB ev wt sh mt bs pr qu fm' ?_)
              rw [ef, pk_us]
            · obtain ⟨k, rfl⟩ : ∃ k, n = k + 1 := ⟨n - 1, by omega⟩
              refine br_f (rd_i j10) (xb_inY j rfl (by omega) (fun h => (pt_ft h hjL).elim) (fun _ => yi_least hT hs j10 (fun x hx => ?_)))
              rw [lp_u hx hxw']
              have hne := rd_e j10 ht10 (Ne.symm htj)
              exact br_f hne (br_t rfl (br_f (rd_x ht10) (br_f hne hp)))
          · obtain ⟨x, hX, hY⟩ := ih (j + 1) c2 (xc (xc L j) w) (by omega) (xb_sm_and (xb_sm_and hs)) (fun u hu => xc_f w10 (xc_mem j10 hmem u hu)) g2 (xc_t w10 (xc_t j10 ht htj) htw)
            refine ⟨x, fun post n am bA bB ev wt sh mt bs pr qu fm hn hf K => ?_, fun mo post n hT hn hp => ?_⟩
            · obtain ⟨k, rfl⟩ : ∃ k, n = k + 1 := ⟨n - 1, by omega⟩
              refine xf_step hW hs j10 hjL hmem hc (fun _ _ _ _ _ _ _ _ _ _ hR _ => absurd (lp_u hxw' hR) (xb_ne w10)) (fun w' c3 am bA bB ev wt sh mt bs pr qu hR h1 h2 h3 => ?_)
              have ew := huw w' h1 hR
              subst ew
              rw [mg_mx_u h3 g2]
              refine hX post k am bA bB ev wt sh mt bs pr qu _ (by omega) ?_ K
              rw [pk_un htw, pk_un htj]; exact hf
            · obtain ⟨k, rfl⟩ : ∃ k, n = k + 1 := ⟨n - 1, by omega⟩
              refine br_f (rd_i j10) (xb_inY j rfl (by omega) (fun h => (pt_ft h hjL).elim) (fun _ => yi_least hT hs j10 (fun x hx => ?_)))
              rw [lp_u hx hxw']
              exact br_f (rd_e j10 ht10 (Ne.symm htj)) (br_f (rd_e w10 ht10 (Ne.symm htw)) (nm_e (br_t (rd_g w10) (nm_e (nm_r (nI_1 j) (hY mo post k hT (by omega) hp))))))
      · rw [e] at hxw'
        have hcn := lp_none hW hs j10 hc hno
        by_cases htj : t = j
        · subst htj
          refine ⟨-2, fun post n am bA bB ev wt sh mt bs pr qu fm hn hf K => ?_, fun mo post n hT hn hp => ?_⟩
          · obtain ⟨k, rfl⟩ : ∃ k, n = k + 1 := ⟨n - 1, by omega⟩
            refine xf_step hW hs j10 hjL hmem hc (fun am bA bB ev wt sh mt bs pr qu _ h2 => ?_) (fun w' c3 am bA bB ev wt sh mt bs pr qu hR h1 h2 h3 => absurd (lp_u hR hxw') (xb_ne h1))
            refine xf_keep hW d (t + 1) k c _ am bA bB ev wt sh mt bs pr qu _ (by omega) (by omega) (xb_sm_and hs) (xc_mem j10 hmem) h2 (xc_n j10) (fun am bA bB ev wt sh mt bs pr qu fm' ef => K am bA bB ev wt sh mt bs pr qu fm' ?_)
            rw [ef, hf]
          · obtain ⟨k, rfl⟩ : ∃ k, n = k + 1 := ⟨n - 1, by omega⟩
            refine br_f (rd_i j10) (xb_inY t rfl (by omega) (fun h => (pt_ft h hjL).elim) (fun _ => yi_least hT hs j10 (fun x hx => ?_)))
            rw [lp_u hx hxw']
            exact br_t rfl (br_t rfl (br_f rd_n0 hp))
        · obtain ⟨x, hX, hY⟩ := ih (j + 1) c (xc L j) (by omega) (xb_sm_and hs) (xc_mem j10 hmem) hcn (xc_t j10 ht htj)
          refine ⟨x, fun post n am bA bB ev wt sh mt bs pr qu fm hn hf K => ?_, fun mo post n hT hn hp => ?_⟩
          · obtain ⟨k, rfl⟩ : ∃ k, n = k + 1 := ⟨n - 1, by omega⟩
            exact xf_step hW hs j10 hjL hmem hc (fun am bA bB ev wt sh mt bs pr qu _ h2 => hX post k am bA bB ev wt sh mt bs pr qu fm (by omega) hf K) (fun w' c3 am bA bB ev wt sh mt bs pr qu hR h1 h2 h3 => absurd (lp_u hR hxw') (xb_ne h1))
          · obtain ⟨k, rfl⟩ : ∃ k, n = k + 1 := ⟨n - 1, by omega⟩
            refine br_f (rd_i j10) (xb_inY j rfl (by omega) (fun h => (pt_ft h hjL).elim) (fun _ => yi_least hT hs j10 (fun x hx => ?_)))
            rw [lp_u hx hxw']
            exact br_f (rd_e j10 ht10 (Ne.symm htj)) (br_f (Ne.symm (xb_ne ht10)) (nm_e (br_f rd_n0 (nm_r (nI_1 j) (hY mo post k hT (by omega) hp)))))
    · have hjf : bt L j = false := by
        cases hb : bt L j
        · rfl
        · exact absurd hb hjL
      obtain ⟨x, hX, hY⟩ := ih (j + 1) c L (by omega) hs (fun u hu => by
        by_cases e : u = j
        · rw [e]; exact hjf
        · exact hmem u (by omega)) hc ht
      refine ⟨x, fun post n am bA bB ev wt sh mt bs pr qu fm hn hf K => ?_, fun mo post n hT hn hp => ?_⟩
      · obtain ⟨k, rfl⟩ : ∃ k, n = k + 1 := ⟨n - 1, by omega⟩
        exact br_f (rd_i j10) (xb_inX j rfl (by omega) (fun _ => nm_r (nI_1 j) (hX post k am bA bB ev wt sh mt bs pr qu fm (by omega) hf K)) (fun h => absurd h hjL))
      · obtain ⟨k, rfl⟩ : ∃ k, n = k + 1 := ⟨n - 1, by omega⟩
        exact br_f (rd_i j10) (xb_inY j rfl (by omega) (fun _ => nm_r (nI_1 j) (hY mo post k hT (by omega) hp)) (fun h => absurd h hjL))
theorem xf_init {post : SX → Prop} {L x2 : Int32} (K : ∀ fm', (∀ x, x < 10 → fm' x = -2) → ∃ n38, wX_findFirst_38 post n38 L x2 (nI 0) on am bA bB ev wt sh ed mt bs pr qu fm') : ∃ n16, wX_findFirst_16 post L x2 on am bA bB ev wt sh n16 0 ed mt bs pr qu fm := by
  have loop : ∀ (d j n : Nat) (fm : Nat → Int32), j + d = 10 → d < n → (∀ x, x < j → fm x = -2) → wX_findFirst_16 post L x2 on am bA bB ev wt sh n (nI j) ed mt bs pr qu fm := by
    intro d
    induction d with
    | zero =>
      intro j n fm hj hn hi
      obtain ⟨k, rfl⟩ : ∃ k, n = k + 1 := ⟨n - 1, by omega⟩
      have e : j = 10 := by omega
      subst e
      exact br_t (by decide) (K fm hi)
    | succ d ih =>
      intro j n fm hj hn hi
      obtain ⟨k, rfl⟩ : ∃ k, n = k + 1 := ⟨n - 1, by omega⟩
      have j10 : j < 10 := by omega
      refine br_f (rd_i j10) ⟨rd_v j10, ?_⟩
      rw [rd_c j10]
      refine nm_e (nm_r (nI_1 j) (ih (j + 1) k _ (by omega) (by omega) (fun x hx => ?_)))
      by_cases e : x = j
      · rw [e, pk_us]
      · rw [pk_un e]; exact hi x (by omega)
  exact ⟨11, loop 10 0 11 fm rfl (by decide) (fun x hx => absurd hx (by omega))⟩
end
theorem i_vc_partner {k : Nat} {u : SX} {v : SY} (I : i_Rel k u v) (hk : k + 4 ≤ 2048) (v1 : Int32) : wpX_partner (fun r u' => wpY_partner (fun r' v' => r' = r ∧ i_Rel (k + 4) u' v') v v1) u v1 := by
  obtain ⟨on, am, bA, bB, ev, wt, sh, ed, mt, bs, pr, qu, fm⟩ := u
  obtain ⟨on2, ed2, mo⟩ := v
  obtain ⟨rfl, rfl, hs, hW⟩ := I
  unfold wpX_partner wpY_partner wpX_findFirst
  dsimp only
  by_cases h1 : eg_v v1
  · obtain ⟨t, ht, rfl⟩ := h1
    refine xi_bad _ (fun _ => br_t rfl (xs_sizeAmong hW (fun c m1 ev wt sh mt bs pr qu _ _ _ g1 => xf_init (fun fm' hfm => ?_)))) (fun h => absurd (eg_nI ht) h)
    by_cases hon : bt on2 t = true
    · obtain ⟨x, hX, hY⟩ := pf_both (on := on2) hW ht 10 0 c on2 rfl hs (fun u hu => absurd hu (by omega)) g1 hon
      refine ⟨11, hX _ 11 _ _ _ _ _ _ _ _ _ _ fm' (by decide) (hfm t ht) (fun am bA bB ev wt sh mt bs pr qu fm2 ef => ⟨rd_v ht, ?_⟩)⟩
      refine yi_bad _ (fun _ => br_t rfl (yi_fill hW (fun mo' hT => ⟨11, hY mo' _ 11 hT (by decide) ⟨?_, rfl, rfl, hs, hW⟩⟩))) (fun h => absurd (eg_nI ht) h)
      show x = fm2 (nI t).toNatClampNeg
      rw [rd_c ht, ef]
    · have hof : bt on2 t = false := by
        cases hb : bt on2 t
        · rfl
        · exact absurd hb hon
      refine ⟨11, xf_keep (t := t) hW 10 0 11 c on2 _ _ _ _ _ _ _ _ _ _ fm' rfl (by decide) hs (fun u hu => absurd hu (by omega)) g1 hof (fun am bA bB ev wt sh mt bs pr qu fm2 ef => ⟨rd_v ht, ?_⟩)⟩
      refine yi_bad _ (fun _ => br_t rfl (yi_fill hW (fun mo' hT => ⟨11, yf_none hT ht ⟨?_, rfl, rfl, hs, hW⟩ 10 0 11 on2 rfl (by decide) hs hof⟩))) (fun h => absurd (eg_nI ht) h)
      show (-2 : Int32) = fm2 (nI t).toNatClampNeg
      rw [rd_c ht, ef, hfm t ht]
  · refine xi_bad _ (fun h => absurd h h1) (fun _ => br_f (by decide) ?_)
    exact yi_bad _ (fun h => absurd h h1) (fun _ => br_f (by decide) ⟨rfl, rfl, rfl, hs, hW⟩)
end
