section
theorem pk_us {f : Nat → Int32} {k : Nat} {x : Int32} : upd f k x k = x := if_pos rfl
theorem pk_un {f : Nat → Int32} {k j : Nat} {x : Int32} (h : j ≠ k) : upd f k x j = f j := if_neg h
theorem pk_sub {a b : Nat} (h : b ≤ a) : nI a - nI b = nI (a - b) := by
  obtain ⟨c, rfl⟩ : ∃ c, a = c + b := ⟨a - b, by omega⟩
  rw [← nI_add, Int32.add_sub_cancel, Nat.add_sub_cancel]
theorem pk_m1 (n : Nat) : nI (n + 1) + (-1) = nI n := by
  rw [← nI_1, Int32.add_assoc, show (1 : Int32) + (-1) = 0 from rfl, Int32.add_zero]
theorem pk_mul (a b : Nat) : nI a * nI b = nI (a * b) := (Int32.ofNat_mul a b).symm
theorem pk_le {x y : Int32} {A B : Prop} (a b : Nat) (f : a ≤ b → A) (g : b < a → B) (hx : x = nI a := by rfl) (hy : y = nI b := by rfl) (ha : a < 2 ^ 31 := by omega) (hb : b < 2 ^ 31 := by omega) : (x ≤ y → A) ∧ (¬ x ≤ y → B) := by
  subst hx hy
  rw [nI_leI ha hb]
  exact ⟨f, fun z => g (by omega)⟩
theorem pk_lt {x y : Int32} {A B : Prop} (a b : Nat) (f : a < b → A) (g : b ≤ a → B) (hx : x = nI a := by rfl) (hy : y = nI b := by rfl) (ha : a < 2 ^ 31 := by omega) (hb : b < 2 ^ 31 := by omega) : (x < y → A) ∧ (¬ x < y → B) := by
  subst hx hy
  rw [nI_ltI ha hb]
  exact ⟨f, fun z => g (by omega)⟩
theorem pk_eq {x y : Int32} {A B : Prop} (a b : Nat) (f : a = b → A) (g : a ≠ b → B) (hx : x = nI a := by rfl) (hy : y = nI b := by rfl) (ha : a < 2 ^ 31 := by omega) (hb : b < 2 ^ 31 := by omega) : (x = y → A) ∧ (¬ x = y → B) := by
  subst hx hy
  rw [nI_eq ha hb]
  exact ⟨f, g⟩
theorem pk_in {x : Int32} (n N : Nat) (h : n < N) (hx : x = nI n := by rfl) (hN : N < 2 ^ 31 := by omega) : vp_in x N := by
  subst hx
  exact vp_in_nI h hN
theorem pk_cl {x : Int32} (n : Nat) (hx : x = nI n := by rfl) (h : n < 2 ^ 31 := by omega) : x.toNatClampNeg = n := by
  subst hx
  exact nI_clamp h
theorem pk_tn {n : Nat} (h : n < 2 ^ 32) : (nI n).toBitVec.toNat = n := Nat.mod_eq_of_lt h
theorem pk_and (x : Int32) {m : Int32} (k : Nat) (hm : m.toBitVec.toNat = 2 ^ k - 1) : x &&& m = nI (x.toBitVec.toNat % 2 ^ k) := by
  apply Int32.toBitVec_inj.mp
  apply BitVec.eq_of_toNat_eq
  rw [Int32.toBitVec_and, BitVec.toNat_and, hm, Nat.and_two_pow_sub_one_eq_mod]
  show _ = (BitVec.ofNat 32 _).toNat
  rw [BitVec.toNat_ofNat]
  exact (Nat.mod_eq_of_lt (Nat.lt_of_le_of_lt (Nat.mod_le _ _) x.toBitVec.isLt)).symm
theorem pk_andN {n : Nat} (h : n < 2 ^ 32) {m : Int32} (k : Nat) (hm : m.toBitVec.toNat = 2 ^ k - 1) : nI n &&& m = nI (n % 2 ^ k) := by
  rw [pk_and _ k hm, pk_tn h]
theorem pk_charN {q : Nat} (hq : q < 65536) : narrow .char (.int (nI q)) = .int (nI q) ∧ fits .char (.int (nI q)) = true := by
  constructor
  · have e : (nI q).toUInt32.toUInt16.toUInt32.toInt32 = nI q := by
      apply Int32.toBitVec_inj.mp
      apply BitVec.eq_of_toNat_eq
      show (nI q).toUInt32.toUInt16.toUInt32.toNat = q % 2 ^ 32
      rw [UInt16.toNat_toUInt32, UInt32.toNat_toUInt16, show (nI q).toUInt32.toNat = q % 2 ^ 32 from rfl]
      omega
    exact congrArg Value.int e
  · have a : (0 : Int32) ≤ nI q := nI_pos' (by omega)
    have b : nI q ≤ 65535 := nI_le (b := 65535) (by omega) (by decide)
    show (decide ((0 : Int32) ≤ nI q) && decide (nI q ≤ 65535)) = true
    rw [decide_eq_true a, decide_eq_true b]
    rfl
theorem pk_char (x : Int32) : (x.toUInt32 % 65536).toInt32 = nI (x.toBitVec.toNat % 65536) := by
  apply Int32.toBitVec_inj.mp
  apply BitVec.eq_of_toNat_eq
  rw [pk_tn (by omega)]
  show (x.toUInt32 % 65536).toNat = _
  rw [UInt32.toNat_mod]
  rfl
theorem pk_nc (x : Int32) : narrow .char (.int (x.toUInt32 % 65536).toInt32) = .int (x.toUInt32 % 65536).toInt32 := by
  rw [pk_char]
  exact (pk_charN (Nat.mod_lt _ (by decide))).1
theorem pk_vb (z : Int32) : vp_nar .byte z.toInt8.toInt32 = z.toInt8.toInt32 := by rw [vp_nar_byte]; simp
theorem pk_vs (z : Int32) : vp_nar .short z.toInt16.toInt32 = z.toInt16.toInt32 := by rw [vp_nar_short]; simp
theorem pk_vc (z : Int32) : vp_nar .char (z.toUInt32 % 65536).toInt32 = (z.toUInt32 % 65536).toInt32 := Value.int.inj (pk_nc z)
theorem pk_least (P : Nat → Prop) (h : ∃ k, P k) : ∃ k, P k ∧ ∀ j, j < k → ¬ P j := by
  obtain ⟨k, hk⟩ := h
  induction k using Nat.strongRecOn with
  | ind k ih =>
    by_cases e : ∃ j, j < k ∧ P j
    · obtain ⟨j, hj, pj⟩ := e
      exact ih j hj pj
    · exact ⟨k, hk, fun j hj pj => e ⟨j, hj, pj⟩⟩
theorem nx_and (a b : Nat) : nI a &&& nI b = nI (a &&& b) := by
  apply Int32.toBitVec_inj.1
  show BitVec.ofNat 32 a &&& BitVec.ofNat 32 b = BitVec.ofNat 32 (a &&& b)
  apply BitVec.eq_of_getLsbD_eq
  intro i hi
  simp [hi]
theorem ts_nf {x : Bool} (h : ¬ x = false) : x = true := by cases x <;> first | rfl | exact absurd rfl h
theorem ts_nt {x : Bool} (h : ¬ x = true) : x = false := by cases x <;> first | rfl | exact absurd rfl h
theorem ts_bit {w : Int64} {s : UInt64} {j : Nat} (hj : j < 64) (hs : s.toNat = j) : ((w.toUInt64 >>> s).toInt64 &&& 1) = 0 ↔ w.toBitVec.getLsbD j = false := by
  have e : (w.toUInt64 >>> s).toInt64.toBitVec = w.toBitVec >>> j := by
    apply BitVec.eq_of_toNat_eq
    show (w.toUInt64 >>> s).toNat = _
    rw [UInt64.toNat_shiftRight, hs, Nat.mod_eq_of_lt hj, BitVec.toNat_ushiftRight]
    rfl
  rw [← Int64.toBitVec_inj, Int64.toBitVec_and, e]
  show w.toBitVec >>> j &&& 1#64 = 0#64 ↔ _
  constructor
  · intro h
    have t := congrArg (fun x => x.getLsbD 0) h
    simpa using t
  · intro h
    apply BitVec.eq_of_getLsbD_eq
    intro i hi
    cases i with
    | zero => simp [h]
    | succ i => simp
theorem wb_tb (n : Nat) : (lN n).toBitVec = BitVec.ofNat 64 n := rfl
theorem wb_inj {a b : Int64} (h : a.toBitVec = b.toBitVec) : a = b := Int64.toBitVec_inj.mp h
theorem wb_c : ∀ k, k < 64 → ((nI k).toInt64 &&& 63) = lN k := by decide +kernel
theorem wb_cu : ∀ k, k < 64 → ((nI k).toInt64.toUInt64 &&& Int64.toUInt64 63) = UInt64.ofNat k := by decide +kernel
theorem u_tn {n : Nat} (h : n < 2 ^ 64) : (UInt64.ofNat n).toNat = n := Nat.mod_eq_of_lt h
end
section
/-! pure: counting, the chain of outer items, sets of ids in a long -/
theorem ir_ph : ∀ (m n : Nat) (g : Nat → Nat), (∀ k, k < n → g k < m) → (∀ i j, i < j → j < n → g i ≠ g j) → n ≤ m := by
  intro m
  induction m with
  | zero =>
    intro n g h _
    rcases Nat.eq_zero_or_pos n with z | z
    · omega
    · exact absurd (h 0 z) (by omega)
  | succ m ih =>
    intro n g h hd
    cases n with
    | zero => omega
    | succ n =>
      have := ih n (fun i => if g i = m then g n else g i) (by
        intro k hk
        have h1 := h k (by omega)
        have h2 := h n (by omega)
        have h3 := hd k n hk (by omega)
        show (if g k = m then g n else g k) < m
        split <;> omega) (by
        intro i j hij hj
        have h1 := hd i j hij (by omega)
        have h2 := hd i n (by omega) (by omega)
        have h3 := hd j n hj (by omega)
        show (if g i = m then g n else g i) ≠ (if g j = m then g n else g j)
        split <;> split <;> omega)
      omega
/-- the outer item of the row whose inner item is a, or 0 -/
def ir_nx (f g : Nat → Nat) : Nat → Nat → Nat
  | 0, _ => 0
  | n + 1, a => if f n = a then g n else ir_nx f g n a
def ir_fd (f : Nat → Nat) : Nat → Nat → Nat
  | 0, _ => 0
  | n + 1, a => if f n = a then n else ir_fd f n a
theorem ir_nx_no {f g : Nat → Nat} {a : Nat} : ∀ n, (∀ i, i < n → f i ≠ a) → ir_nx f g n a = 0 := by
  intro n
  induction n with
  | zero => intro _; rfl
  | succ n ih =>
    intro h
    show (if f n = a then g n else ir_nx f g n a) = 0
    rw [if_neg (h n (by omega))]
    exact ih (fun i hi => h i (by omega))
theorem ir_nx_yes {f g : Nat → Nat} {a : Nat} : ∀ n, (∀ i j, i < j → j < n → f i ≠ f j) → ∀ i, i < n → f i = a → ir_nx f g n a = g i := by
  intro n
  induction n with
  | zero => intro _ i hi; omega
  | succ n ih =>
    intro hd i hi e
    show (if f n = a then g n else ir_nx f g n a) = g i
    by_cases z : i = n
    · subst z; rw [if_pos e]
    · rw [if_neg (fun w => hd i n (by omega) (by omega) (e.trans w.symm))]
      exact ih (fun i j h1 h2 => hd i j h1 (by omega)) i (by omega) e
theorem ir_fd_ok {f : Nat → Nat} {a : Nat} : ∀ n, (∃ i, i < n ∧ f i = a) → ir_fd f n a < n ∧ f (ir_fd f n a) = a := by
  intro n
  induction n with
  | zero => intro ⟨i, hi, _⟩; omega
  | succ n ih =>
    intro ⟨i, hi, e⟩
    show (if f n = a then n else ir_fd f n a) < n + 1 ∧ f (if f n = a then n else ir_fd f n a) = a
    by_cases z : f n = a
    · rw [if_pos z]; exact ⟨by omega, z⟩
    · rw [if_neg z]
      have hn : i ≠ n := fun w => z (w ▸ e)
      have := ih ⟨i, by omega, e⟩
      exact ⟨by omega, this.2⟩
/-- n steps of F from a -/
def ir_it {α : Type} (F : α → α) : Nat → α → α
  | 0, a => a
  | n + 1, a => ir_it F n (F a)
theorem ir_it_s {α : Type} (F : α → α) : ∀ n a, ir_it F (n + 1) a = F (ir_it F n a) := by
  intro n
  induction n with
  | zero => intro a; rfl
  | succ n ih => intro a; exact ih (F a)
theorem ir_it_add {α : Type} (F : α → α) : ∀ d i a, ir_it F (i + d) a = ir_it F d (ir_it F i a) := by
  intro d i
  induction i with
  | zero => intro a; rw [Nat.zero_add]; rfl
  | succ i ih =>
    intro a
    rw [Nat.add_right_comm]
    exact ih (F a)
theorem ir_it_fix {α : Type} (F : α → α) {z : α} (h : F z = z) : ∀ n, ir_it F n z = z := by
  intro n
  induction n with
  | zero => rfl
  | succ n ih => rw [ir_it_s, ih, h]
/-- what the chain reaches at all, it reaches in at most as many steps as there are rows -/
theorem ir_short {f g : Nat → Nat} {n a b : Nat} (h0 : ∀ i, i < n → f i ≠ 0) (hb : b ≠ 0) (h : ∃ k, ir_it (ir_nx f g n) k a = b) : ∃ k, k ≤ n ∧ ir_it (ir_nx f g n) k a = b := by
  obtain ⟨k, hk, hm⟩ := pk_least _ h
  refine ⟨k, ?_, hk⟩
  have hz : ∀ d, ir_it (ir_nx f g n) d 0 = 0 := ir_it_fix _ (ir_nx_no n h0)
  have hr : ∀ i, i < k → ∃ r, r < n ∧ f r = ir_it (ir_nx f g n) i a := by
    intro i hi
    apply Classical.byContradiction
    intro hn
    have e : ir_nx f g n (ir_it (ir_nx f g n) i a) = 0 := ir_nx_no n (fun r hr w => hn ⟨r, hr, w⟩)
    rw [← ir_it_s (ir_nx f g n)] at e
    have e2 : k = (i + 1) + (k - (i + 1)) := by omega
    rw [e2, ir_it_add, e, hz] at hk
    exact hb hk.symm
  refine ir_ph n k (fun i => ir_fd f n (ir_it (ir_nx f g n) i a)) (fun i hi => (ir_fd_ok n (hr i hi)).1) ?_
  intro i j hij hj e
  have e1 := (ir_fd_ok n (hr i (by omega))).2
  have e2 := (ir_fd_ok n (hr j hj)).2
  have e3 : ir_it (ir_nx f g n) i a = ir_it (ir_nx f g n) j a := by
    rw [← e1, ← e2]
    exact congrArg f e
  apply hm (i + (k - j)) (by omega)
  rw [ir_it_add, e3, ← ir_it_add, show j + (k - j) = k by omega, hk]
/-! sets of ids in a long -/
def ir_bt (x : Int64) (b : Nat) : Bool := x.toBitVec.getLsbD b
theorem ir_bt_ext {x y : Int64} (h : ∀ b, b < 64 → (ir_bt x b = true ↔ ir_bt y b = true)) : x = y :=
  Int64.toBitVec_inj.mp (BitVec.eq_of_getLsbD_eq (fun i hi => Bool.eq_iff_iff.mpr (h i hi)))
theorem ir_bt_0 (b : Nat) : ir_bt 0 b = false := BitVec.getLsbD_zero
theorem ir_sh : ∀ k, k < 64 → ((1 : Int64) <<< ((nI k).toInt64 &&& 63)).toBitVec = BitVec.twoPow 64 k := by decide +kernel
theorem ir_bt_1 {k b : Nat} (hk : k < 64) (hb : b < 64) : ir_bt ((1 : Int64) <<< ((nI k).toInt64 &&& 63)) b = true ↔ k = b := by
  unfold ir_bt
  rw [ir_sh k hk, BitVec.getLsbD_twoPow]
  simp [hk]
theorem ir_bt_or (x y : Int64) (b : Nat) : ir_bt (x ||| y) b = true ↔ ir_bt x b = true ∨ ir_bt y b = true := by
  unfold ir_bt
  rw [Int64.toBitVec_or, BitVec.getLsbD_or, Bool.or_eq_true]
theorem ir_tst {s : Int64} {b : Nat} (hb : b < 64) : ((s.toUInt64 >>> ((nI b).toInt64.toUInt64 &&& Int64.toUInt64 63)).toInt64 &&& 1) = 0 ↔ ir_bt s b = false :=
  ts_bit hb (by rw [wb_cu b hb]; exact u_tn (by omega))
/-- one pass over the rows i, i + 1 .. i + d - 1 -/
def ir_ps (f g : Nat → Nat) : Nat → Nat → Int64 → Int64
  | 0, _, s => s
  | d + 1, i, s => ir_ps f g d (i + 1) (if ir_bt s (f i) = true then s ||| ((1 : Int64) <<< ((nI (g i)).toInt64 &&& 63)) else s)
theorem ir_ps_mono {f g : Nat → Nat} : ∀ d i s b, ir_bt s b = true → ir_bt (ir_ps f g d i s) b = true := by
  intro d
  induction d with
  | zero => intro i s b h; exact h
  | succ d ih =>
    intro i s b h
    refine ih (i + 1) _ b ?_
    split
    · exact (ir_bt_or _ _ _).mpr (Or.inl h)
    · exact h
theorem ir_ps_sound {f g : Nat → Nat} {P : Nat → Prop} : ∀ d i s, (∀ r, i ≤ r → r < i + d → g r < 64) → (∀ r, i ≤ r → r < i + d → P (f r) → P (g r)) → (∀ r, i ≤ r → r < i + d → f r < 64) → (∀ b, b < 64 → ir_bt s b = true → P b) → ∀ b, b < 64 → ir_bt (ir_ps f g d i s) b = true → P b := by
  intro d
  induction d with
  | zero => intro i s _ _ _ h; exact h
  | succ d ih =>
    intro i s hg hc hf h
    refine ih (i + 1) _ (fun r h1 h2 => hg r (by omega) (by omega)) (fun r h1 h2 => hc r (by omega) (by omega)) (fun r h1 h2 => hf r (by omega) (by omega)) ?_
    intro b hb
    split
    · next e =>
      intro w
      rcases (ir_bt_or _ _ _).mp w with w | w
      · exact h b hb w
      · have := (ir_bt_1 (hg i (by omega) (by omega)) hb).mp w
        rw [← this]
        exact hc i (by omega) (by omega) (h _ (hf i (by omega) (by omega)) e)
    · exact h b hb
theorem ir_ps_prog {f g : Nat → Nat} : ∀ d i s, (∀ r, i ≤ r → r < i + d → g r < 64) → ∀ r, i ≤ r → r < i + d → ir_bt s (f r) = true → ir_bt (ir_ps f g d i s) (g r) = true := by
  intro d
  induction d with
  | zero => intro i s _ r h1 h2; omega
  | succ d ih =>
    intro i s hg r h1 h2 h
    by_cases z : r = i
    · subst z
      show ir_bt (ir_ps f g d (r + 1) (if ir_bt s (f r) = true then _ else s)) (g r) = true
      rw [if_pos h]
      exact ir_ps_mono _ _ _ _ ((ir_bt_or _ _ _).mpr (Or.inr ((ir_bt_1 (hg r (by omega) (by omega)) (hg r (by omega) (by omega))).mpr rfl)))
    · refine ih (i + 1) _ (fun r h1 h2 => hg r (by omega) (by omega)) r (by omega) (by omega) ?_
      split
      · exact (ir_bt_or _ _ _).mpr (Or.inl h)
      · exact h
/-- after m passes, m at least the number of rows: the set answers whether the chain from a comes to b -/
theorem ir_closed {f g : Nat → Nat} {n a b m : Nat} (hf : ∀ i, i < n → 1 ≤ f i ∧ f i < 64) (hg : ∀ i, i < n → g i < 64) (hd : ∀ i j, i < j → j < n → f i ≠ f j) (ha : a < 64) (hb : b < 64) (h0 : b ≠ 0) (hm : n ≤ m) :
    ir_bt (ir_it (ir_ps f g n 0) m ((1 : Int64) <<< ((nI a).toInt64 &&& 63))) b = true ↔ ∃ k, k ≤ n ∧ ir_it (ir_nx f g n) k a = b := by
  have hz : ir_nx f g n 0 = 0 := ir_nx_no n (fun i hi w => by have := (hf i hi).1; omega)
  constructor
  · intro h
    refine ir_short (fun i hi w => by have := (hf i hi).1; omega) h0 ?_
    have key : ∀ m c, c < 64 → ir_bt (ir_it (ir_ps f g n 0) m ((1 : Int64) <<< ((nI a).toInt64 &&& 63))) c = true → ∃ k, ir_it (ir_nx f g n) k a = c := by
      intro m
      induction m with
      | zero =>
        intro c hc h
        exact ⟨0, (ir_bt_1 ha hc).mp h⟩
      | succ m ih =>
        intro c hc h
        rw [ir_it_s] at h
        refine ir_ps_sound (P := fun c => ∃ k, ir_it (ir_nx f g n) k a = c) n 0 _ (fun r _ h2 => hg r (by omega)) ?_ (fun r _ h2 => (hf r (by omega)).2) ih c hc h
        intro r _ h2 ⟨k, e⟩
        refine ⟨k + 1, ?_⟩
        rw [ir_it_s, e]
        exact ir_nx_yes n hd r (by omega) rfl
    exact key m b hb h
  · intro ⟨k, hk, e⟩
    have key : ∀ m k, k ≤ m → ir_it (ir_nx f g n) k a ≠ 0 → ir_it (ir_nx f g n) k a < 64 → ir_bt (ir_it (ir_ps f g n 0) m ((1 : Int64) <<< ((nI a).toInt64 &&& 63))) (ir_it (ir_nx f g n) k a) = true := by
      intro m
      induction m with
      | zero =>
        intro k hk _ _
        have : k = 0 := by omega
        subst this
        exact (ir_bt_1 ha ha).mpr rfl
      | succ m ih =>
        intro k hk hne hlt
        rw [ir_it_s]
        by_cases z : k ≤ m
        · exact ir_ps_mono _ _ _ _ (ih k z hne hlt)
        · have : k = m + 1 := by omega
          subst this
          rw [ir_it_s] at hne hlt ⊢
          have hr : ∃ r, r < n ∧ f r = ir_it (ir_nx f g n) m a := by
            apply Classical.byContradiction
            intro hn
            exact hne (ir_nx_no n (fun r hr w => hn ⟨r, hr, w⟩))
          obtain ⟨r, hr, er⟩ := hr
          rw [ir_nx_yes n hd r hr er]
          refine ir_ps_prog n 0 _ (fun r _ h2 => hg r (by omega)) r (by omega) (by omega) ?_
          have := hf r hr
          rw [er] at this ⊢
          exact ih m (by omega) (by omega) this.2
    have := key m k (by omega) (by rw [e]; exact h0) (by rw [e]; exact hb)
    rw [e] at this
    exact this
end
section
/-! the flag words: bits 0 to 15 -/
theorem ir_and2 (w b : Nat) : w &&& 2 ^ b = if w.testBit b = true then 2 ^ b else 0 := by
  apply Nat.eq_of_testBit_eq
  intro i
  rw [Nat.testBit_and, Nat.testBit_two_pow]
  by_cases e : b = i
  · subst e
    cases h : w.testBit b
    · simp
    · simp [Nat.testBit_two_pow_self]
  · rw [decide_eq_false e, Bool.and_false]
    split
    · rw [Nat.testBit_two_pow, decide_eq_false e]
    · rw [Nat.zero_testBit]
theorem ir_mods (x b : Nat) : x % 2 ^ (b + 1) = x % 2 ^ b + (if x.testBit b = true then 2 ^ b else 0) := by
  rw [Nat.pow_succ, Nat.mod_mul, Nat.testBit_eq_decide_div_mod_eq]
  rcases Nat.mod_two_eq_zero_or_one (x / 2 ^ b) with h | h
  · rw [h]; simp
  · rw [h]; simp
theorem ir_one : ∀ b, b < 16 → (1 : Int32) <<< (nI b &&& 31) = nI (2 ^ b) := by decide +kernel
theorem ir_p16 : ∀ b, b < 16 → 0 < 2 ^ b ∧ 2 ^ b < 2 ^ 31 := by decide
theorem ir_andz {w b : Nat} (hb : b < 16) : (nI w &&& nI (2 ^ b)) = 0 ↔ w.testBit b = false := by
  rw [nx_and, ir_and2]
  cases h : w.testBit b
  · exact ⟨fun _ => rfl, fun _ => rfl⟩
  · rw [if_pos rfl]
    exact ⟨fun z => absurd z (nI_ne0 (ir_p16 b hb).1 (ir_p16 b hb).2), fun z => nomatch z⟩
def ir_ls (p z : Int32) : Int32 := if p = 1 then 1 else if p = 2 then z else if p = 4 then z else if p = 8 then z else if p = 16 then 1 else if p = 512 then 1 else if p = 1024 then 1 else if p = 4096 then 1 else if p = 8192 then 1 else if p = 16384 then 1 else 0
theorem ir_ls_ok {post : Int32 → Prop} {p z : Int32} (hz : narrow .boolean (.int z) = .int z) (hp : post (ir_ls p z)) : wpY_listed post p z := by
  unfold ir_ls at hp
  unfold wpY_listed
  refine br_c (fun h => ?_) (fun h => ?_)
  · rw [if_pos h] at hp; exact hp
  rw [if_neg h] at hp
  refine br_c (fun h => ⟨hz, ?_⟩) (fun h => ?_)
  · rw [if_pos h] at hp; exact hp
  rw [if_neg h] at hp
  refine br_c (fun h => ⟨hz, ?_⟩) (fun h => ?_)
  · rw [if_pos h] at hp; exact hp
  rw [if_neg h] at hp
  refine br_c (fun h => ⟨hz, ?_⟩) (fun h => ?_)
  · rw [if_pos h] at hp; exact hp
  rw [if_neg h] at hp
  refine br_c (fun h => ?_) (fun h => ?_)
  · rw [if_pos h] at hp; exact hp
  rw [if_neg h] at hp
  refine br_c (fun h => ?_) (fun h => ?_)
  · rw [if_pos h] at hp; exact hp
  rw [if_neg h] at hp
  refine br_c (fun h => ?_) (fun h => ?_)
  · rw [if_pos h] at hp; exact hp
  rw [if_neg h] at hp
  refine br_c (fun h => ?_) (fun h => ?_)
  · rw [if_pos h] at hp; exact hp
  rw [if_neg h] at hp
  refine br_c (fun h => ?_) (fun h => ?_)
  · rw [if_pos h] at hp; exact hp
  rw [if_neg h] at hp
  refine br_c (fun h => ?_) (fun h => ?_)
  · rw [if_pos h] at hp; exact hp
  rw [if_neg h] at hp
  exact hp
theorem ir_ls1 : ∀ b, b < 16 → ir_ls (nI (2 ^ b)) 1 = if Nat.testBit 30239 b = true then 1 else 0 := by decide +kernel
theorem ir_ls0 : ∀ b, b < 16 → ir_ls (nI (2 ^ b)) 0 = if Nat.testBit 30225 b = true then 1 else 0 := by decide +kernel
theorem ir_mloop {post : Int32 → Prop} {x2 z : Int32} {w M : Nat} {fc : Int32} {fr : Int64} {b1 b2 b3 : Nat → Int32} (hM : M < 65536)
    (hz : narrow .boolean (.int z) = .int z) (hx : (x2 < 0 ∧ z = 0) ∨ (¬ x2 < 0 ∧ z = 1)) (hl : ∀ b, b < 16 → ir_ls (nI (2 ^ b)) z = if M.testBit b = true then 1 else 0) (hp : post (nI (w &&& M))) :
    ∀ d b, b + d = 16 → wY_modifiersOf_45 post x2 (nI w) fc fr b1 b2 b3 (d + 1) (nI ((w &&& M) % 2 ^ b)) (nI b) := by
  intro d
  induction d with
  | zero =>
    intro b hb
    have hb : b = 16 := by omega
    subst hb
    refine br_t (nI_le (a := 16) (b := 16) (by omega) (by decide)) ?_
    rw [Nat.mod_eq_of_lt (Nat.and_lt_two_pow w (n := 16) hM)]
    exact hp
  | succ d ih =>
    intro b hb
    have hb6 : b < 16 := by omega
    refine br_f (nI_ge (b := 16) hb6 (by decide)) (nm_r (ir_one b hb6) ?_)
    have hs := ir_mods (w &&& M) b
    rw [Nat.testBit_and] at hs
    have ih := ih (b + 1) (by omega)
    by_cases hw : w.testBit b = false
    · refine br_t ((ir_andz hb6).mpr hw) (nm_r (nI_1 b) ?_)
      rw [hw, Bool.false_and, if_neg (by decide), Nat.add_zero] at hs
      rw [hs] at ih
      exact ih
    · have hw1 := ts_nf hw
      refine br_f (fun e => hw ((ir_andz hb6).mp e)) ?_
      rw [hw1, Bool.true_and] at hs
      have goal : wpY_listed (fun r_22 => ((r_22 = 0 → (∀ x5_24 : Int32, x5_24 = nI b + 1 → (wY_modifiersOf_45 post x2 (nI w) fc fr b1 b2 b3 (d + 1) (nI ((w &&& M) % 2 ^ b)) x5_24))) ∧ (¬ r_22 = 0 → (∀ x4_25 : Int32, x4_25 = nI ((w &&& M) % 2 ^ b) + nI (2 ^ b) → (∀ x5_26 : Int32, x5_26 = nI b + 1 → (wY_modifiersOf_45 post x2 (nI w) fc fr b1 b2 b3 (d + 1) x4_25 x5_26)))))) (nI (2 ^ b)) z := by
        refine ir_ls_ok hz ?_
        rw [hl b hb6]
        by_cases hm : M.testBit b = true
        · rw [if_pos hm]
          refine br_f (by decide) (nm_r (nI_add _ _) (nm_r (nI_1 b) ?_))
          rw [if_pos hm] at hs
          rw [hs] at ih
          exact ih
        · rw [if_neg hm]
          refine br_t rfl (nm_r (nI_1 b) ?_)
          rw [if_neg hm, Nat.add_zero] at hs
          rw [hs] at ih
          exact ih
      rcases hx with ⟨h1, h2⟩ | ⟨h1, h2⟩
      · subst h2
        exact br_t h1 goal
      · subst h2
        exact br_f h1 goal
theorem ir_self (v : Int32) : v = nI v.toBitVec.toNat := Int32.toBitVec_inj.mp (by show _ = BitVec.ofNat 32 _; simp)
theorem ir_f1 (v : Int32) : v &&& 65535 = nI (v.toBitVec.toNat % 65536) := pk_and v 16 (by decide)
theorem ir_f2 (v : Int32) : (v &&& 32768) = 0 ↔ v.toBitVec.toNat % 65536 < 32768 := by
  have e : (v &&& 32768) = nI (v.toBitVec.toNat &&& 2 ^ 15) := by
    rw [← nx_and, ← ir_self]; rfl
  rw [e, ir_and2, Nat.testBit_eq_decide_div_mod_eq]
  generalize v.toBitVec.toNat = k
  by_cases h : k / 2 ^ 15 % 2 = 1
  · rw [if_pos (decide_eq_true h)]
    exact ⟨fun z => absurd z (by decide), fun z => by omega⟩
  · rw [if_neg (fun z => h (of_decide_eq_true z))]
    exact ⟨fun _ => by omega, fun _ => rfl⟩
theorem ir_f3 (v : Int32) : v.toInt16.toInt32.toInt = if v.toBitVec.toNat % 65536 < 32768 then ((v.toBitVec.toNat % 65536 : Nat) : Int) else ((v.toBitVec.toNat % 65536 : Nat) : Int) - 65536 := by
  have h := BitVec.toInt_eq_toNat_cond v.toBitVec
  have e : v.toInt = v.toBitVec.toInt := rfl
  have hk := v.toBitVec.isLt
  rw [lg_i2s_toInt, e, h, Int.bmod_def]
  generalize v.toBitVec.toNat = k at hk
  split <;> split <;> split <;> omega
theorem ir_f4 (v : Int32) : 0 ≤ v.toInt16.toInt32 ↔ v.toBitVec.toNat % 65536 < 32768 := by
  rw [Int32.le_iff_toInt_le, ir_f3, show (0 : Int32).toInt = 0 from by decide]
  split <;> omega
theorem ir_f5 {v : Int32} (h : v.toBitVec.toNat % 65536 < 32768) : vp_nar .short v.toInt16.toInt32 = nI (v.toBitVec.toNat % 65536) := by
  rw [pk_vs]
  apply Int32.toInt_inj.mp
  rw [ir_f3, if_pos h, nI_toInt (by omega)]
theorem ir_ch (v : Int32) : vp_nar .char ((v.toUInt32 % 65536).toInt32) = nI (v.toBitVec.toNat % 65536) := by rw [pk_vc, pk_char]
theorem ir_chN {n : Nat} (h : n < 65536) : vp_nar .char (((nI n).toUInt32 % 65536).toInt32) = nI n := by
  rw [ir_ch, pk_tn (by omega), Nat.mod_eq_of_lt h]
theorem ir_by : ∀ n, n < 7 → (nI n + 1).toInt8.toInt32 = nI (n + 1) := by decide +kernel
theorem ir_byN {n : Nat} (h : n < 7) : vp_nar .byte ((nI n + 1).toInt8.toInt32) = nI (n + 1) := by
  rw [pk_vb, ir_by n h]
end
section
/-! the relation: both sides hold one table of tables -/
def ir_Ok (c : Nat) (cf cnt : Nat → Nat) (inn out nm fl : Nat → Nat → Nat) : Prop :=
  c ≤ 8 ∧ (∀ t, cf t < 32768) ∧ (∀ t, cnt t ≤ 6) ∧ (∀ t, c < t → cnt t = 0) ∧
  (∀ t i, i < cnt t → 1 ≤ inn t i ∧ inn t i ≤ c ∧ out t i ≤ c ∧ nm t i < 65536 ∧ fl t i < 65536) ∧
  (∀ t i j, i < j → j < cnt t → inn t i ≠ inn t j)
def ir_X (cf cnt : Nat → Nat) (inn out nm fl : Nat → Nat → Nat) (a1 a2 a3 a4 a5 a6 : Nat → Int32) : Prop :=
  (∀ t, t ≤ 8 → a1 t = nI (cf t)) ∧ (∀ t, t ≤ 8 → a2 t = nI (cnt t)) ∧
  (∀ t i, t ≤ 8 → i < cnt t → a3 (t * 6 + i) = nI (inn t i) ∧ a4 (t * 6 + i) = nI (out t i) ∧ a5 (t * 6 + i) = nI (nm t i) ∧ a6 (t * 6 + i) = nI (fl t i))
def ir_Y (cf cnt : Nat → Nat) (inn out nm fl : Nat → Nat → Nat) (b1 b2 b3 : Nat → Int32) : Prop :=
  (∀ t, t ≤ 8 → b1 t = nI (cf t)) ∧ (∀ t, t ≤ 8 → b2 t = nI (cnt t)) ∧
  (∀ t i, t ≤ 8 → i < cnt t → b3 (t * 24 + 4 * i) = nI (inn t i) ∧ b3 (t * 24 + 4 * i + 1) = nI (out t i) ∧ b3 (t * 24 + 4 * i + 2) = nI (nm t i) ∧ b3 (t * 24 + 4 * i + 3) = nI (fl t i))
/-- the relation at the head of a turn -/
def i_Rel (k : Nat) (u : SX) (v : SY) : Prop :=
  ∃ (c : Nat) (cf cnt : Nat → Nat) (inn out nm fl : Nat → Nat → Nat) (a1 a2 a3 a4 a5 a6 : Nat → Int32) (fr : Int64) (b1 b2 b3 : Nat → Int32),
    u = (nI c, a1, a2, a3, a4, a5, a6) ∧ v = (nI c, fr, b1, b2, b3) ∧ ir_Ok c cf cnt inn out nm fl ∧ ir_X cf cnt inn out nm fl a1 a2 a3 a4 a5 a6 ∧ ir_Y cf cnt inn out nm fl b1 b2 b3
theorem ir_el {P : SX → SY → Prop} {k : Nat} {u : SX} {v : SY}
    (h : ∀ (c : Nat) (cf cnt : Nat → Nat) (inn out nm fl : Nat → Nat → Nat) (a1 a2 a3 a4 a5 a6 : Nat → Int32) (fr : Int64) (b1 b2 b3 : Nat → Int32),
      ir_Ok c cf cnt inn out nm fl → ir_X cf cnt inn out nm fl a1 a2 a3 a4 a5 a6 → ir_Y cf cnt inn out nm fl b1 b2 b3 → P (nI c, a1, a2, a3, a4, a5, a6) (nI c, fr, b1, b2, b3))
    (I : i_Rel k u v) : P u v := by
  obtain ⟨c, cf, cnt, inn, out, nm, fl, a1, a2, a3, a4, a5, a6, fr, b1, b2, b3, rfl, rfl, h1, h2, h3⟩ := I
  exact h c cf cnt inn out nm fl a1 a2 a3 a4 a5 a6 fr b1 b2 b3 h1 h2 h3
theorem ir_in {k c : Nat} {cf cnt : Nat → Nat} {inn out nm fl : Nat → Nat → Nat} {a1 a2 a3 a4 a5 a6 : Nat → Int32} {fr : Int64} {b1 b2 b3 : Nat → Int32}
    (h1 : ir_Ok c cf cnt inn out nm fl) (h2 : ir_X cf cnt inn out nm fl a1 a2 a3 a4 a5 a6) (h3 : ir_Y cf cnt inn out nm fl b1 b2 b3) :
    i_Rel k (nI c, a1, a2, a3, a4, a5, a6) (nI c, fr, b1, b2, b3) :=
  ⟨c, cf, cnt, inn, out, nm, fl, a1, a2, a3, a4, a5, a6, fr, b1, b2, b3, rfl, rfl, h1, h2, h3⟩
theorem ir_kc (p : Int32) {c : Nat} (hc : c ≤ 8) : (∃ j, 1 ≤ j ∧ j ≤ c ∧ p = nI j) ∨ (p < 1 ∨ (¬ p < 1 ∧ nI c < p)) := by
  by_cases h1 : p < 1
  · exact Or.inr (Or.inl h1)
  by_cases h2 : nI c < p
  · exact Or.inr (Or.inr ⟨h1, h2⟩)
  have h0 : ¬ p < 0 := by
    rw [Int32.lt_iff_toInt_lt, show (0 : Int32).toInt = 0 from by decide]
    rw [Int32.lt_iff_toInt_lt, show (1 : Int32).toInt = 1 from by decide] at h1
    omega
  obtain ⟨j, hj, rfl⟩ := nI_of h0
  rw [nI_ltI (by omega) hj] at h2
  have h3 : ¬ nI j < nI 1 := h1
  rw [nI_ltI hj (by omega)] at h3
  exact Or.inl ⟨j, by omega, by omega, rfl⟩
section
variable {c : Nat} {cf cnt : Nat → Nat} {inn out nm fl : Nat → Nat → Nat} {a1 a2 a3 a4 a5 a6 : Nat → Int32} {fr : Int64} {b1 b2 b3 : Nat → Int32}
theorem ir_kX {post : Int32 → Prop} {j : Nat} (hc : c ≤ 8) (h1 : 1 ≤ j) (h2 : j ≤ c) (hp : post 1) : wpX_known post (nI c, a1, a2, a3, a4, a5, a6) (nI j) :=
  br_f (nI_nlt (b := 1) h1 (by omega)) (br_f (nI_nlt h2 (by omega)) hp)
theorem ir_kY {post : Int32 → Prop} {j : Nat} (hc : c ≤ 8) (h1 : 1 ≤ j) (h2 : j ≤ c) (hp : post 1) : wpY_known post (nI c, fr, b1, b2, b3) (nI j) :=
  br_f (nI_nlt (b := 1) h1 (by omega)) (br_f (nI_nlt h2 (by omega)) hp)
theorem ir_nX {post : Int32 → Prop} {p : Int32} (h : p < 1 ∨ (¬ p < 1 ∧ nI c < p)) (hp : post 0) : wpX_known post (nI c, a1, a2, a3, a4, a5, a6) p := by
  rcases h with h | ⟨h, h2⟩
  · exact br_t h hp
  · exact br_f h (br_t h2 hp)
theorem ir_nY {post : Int32 → Prop} {p : Int32} (h : p < 1 ∨ (¬ p < 1 ∧ nI c < p)) (hp : post 0) : wpY_known post (nI c, fr, b1, b2, b3) p := by
  rcases h with h | ⟨h, h2⟩
  · exact br_t h hp
  · exact br_f h (br_t h2 hp)
theorem ir_i24 (t i : Nat) : nI t * 24 + 4 * nI i = nI (t * 24 + 4 * i) := by
  show nI t * nI 24 + nI 4 * nI i = _
  rw [pk_mul, pk_mul, nI_add]
theorem ir_i24a (t i k : Nat) {x : Int32} (hx : x = nI k) : nI (t * 24 + 4 * i) + x = nI (t * 24 + 4 * i + k) := by
  rw [hx, nI_add]
/-! the row of a table whose inner item is j -/
theorem ir_fXl {post : Int32 → Prop} {t j : Nat} (hO : ir_Ok c cf cnt inn out nm fl) (hX : ir_X cf cnt inn out nm fl a1 a2 a3 a4 a5 a6) (ht : t ≤ 8) (hj : j ≤ 8)
    (hf : ∀ i, i < cnt t → inn t i = j → post (nI (t * 6 + i))) (hn : (∀ i, i < cnt t → inn t i ≠ j) → post (-1)) :
    ∀ d i, i + d = cnt t → (∀ r, r < i → inn t r ≠ j) → wX_findRow_16 post (nI j) (nI (t * 6)) (nI (cnt t)) (nI c) a1 a2 a3 a4 a5 a6 (d + 1) (nI i) := by
  have h6 := hO.2.2.1 t
  have hc := hO.1
  intro d
  induction d with
  | zero =>
    intro i hi hl
    exact br_t (nI_le (by omega) (by omega)) (hn (fun r hr => hl r (by omega)))
  | succ d ih =>
    intro i hi hl
    refine br_f (nI_ge (by omega) (by omega)) ?_
    have hr := hO.2.2.2.2.1 t i (by omega)
    rw [nI_add, nI_clamp (by omega), (hX.2.2 t i ht (by omega)).1]
    refine ⟨vp_in_nI (by omega) (by omega), pk_eq (inn t i) j (fun e => hf i (by omega) e) (fun e => nm_r (nI_1 i) (ih (i + 1) (by omega) ?_))⟩
    intro r hr
    by_cases z : r = i
    · subst z; exact e
    · exact hl r (by omega)
theorem ir_fX {post : Int32 → Prop} {t j : Nat} (hO : ir_Ok c cf cnt inn out nm fl) (hX : ir_X cf cnt inn out nm fl a1 a2 a3 a4 a5 a6) (ht : t ≤ 8) (hj : j ≤ 8)
    (hf : ∀ i, i < cnt t → inn t i = j → post (nI (t * 6 + i))) (hn : (∀ i, i < cnt t → inn t i ≠ j) → post (-1)) : wpX_findRow post (nI c, a1, a2, a3, a4, a5, a6) (nI t) (nI j) := by
  refine nm_r (pk_mul t 6) ⟨vp_in_nI (by omega) (by omega), nm_r (e' := nI (cnt t)) (by rw [nI_clamp (by omega), hX.2.1 t ht]) ⟨cnt t + 1, ?_⟩⟩
  exact ir_fXl hO hX ht hj hf hn (cnt t) 0 (by omega) (fun r hr => by omega)
theorem ir_fYl {post : Int32 → Prop} {t j : Nat} (hO : ir_Ok c cf cnt inn out nm fl) (hY : ir_Y cf cnt inn out nm fl b1 b2 b3) (ht : t ≤ 8) (hj : j ≤ 8)
    (hf : ∀ i, i < cnt t → inn t i = j → post (nI (t * 24 + 4 * i))) (hn : (∀ i, i < cnt t → inn t i ≠ j) → post (-1)) :
    ∀ m f, m ≤ cnt t → ((f = -1 ∧ ∀ i, m ≤ i → i < cnt t → inn t i ≠ j) ∨ ∃ i, m ≤ i ∧ i < cnt t ∧ inn t i = j ∧ f = nI (t * 24 + 4 * i)) →
      wY_rowOf_12 post (nI t) (nI j) (nI c) fr b1 b2 b3 (m + 1) f (nI m - 1) := by
  have h6 := hO.2.2.1 t
  have hc := hO.1
  intro m
  induction m with
  | zero =>
    intro f hm h
    refine br_t (by decide) ?_
    rcases h with ⟨rfl, h⟩ | ⟨i, h1, h2, h3, rfl⟩
    · exact hn (fun i hi => h i (by omega) hi)
    · exact hf i h2 h3
  | succ m ih =>
    intro f hm h
    rw [nI_pred]
    have hr := hO.2.2.2.2.1 t m (by omega)
    have hs : nI m + (-1) = nI m - 1 := (Int32.sub_eq_add_neg _ _).symm
    refine br_f (nI_pos (by omega)) ?_
    rw [ir_i24, nI_clamp (by omega), (hY.2.2 t m ht (by omega)).1]
    refine ⟨vp_in_nI (by omega) (by omega), pk_eq (inn t m) j (fun e => nm_e (nm_r hs (ih _ (by omega) (Or.inr ⟨m, by omega, by omega, e, rfl⟩)))) (fun e => nm_r hs (ih _ (by omega) ?_))⟩
    rcases h with ⟨h1, h⟩ | ⟨i, h1, h2, h3, h4⟩
    · refine Or.inl ⟨h1, fun i hi hi2 => ?_⟩
      by_cases z : i = m
      · subst z; exact e
      · exact h i (by omega) hi2
    · exact Or.inr ⟨i, by omega, h2, h3, h4⟩
theorem ir_fY {post : Int32 → Prop} {t j : Nat} (hO : ir_Ok c cf cnt inn out nm fl) (hY : ir_Y cf cnt inn out nm fl b1 b2 b3) (ht : t ≤ 8) (hj : j ≤ 8)
    (hf : ∀ i, i < cnt t → inn t i = j → post (nI (t * 24 + 4 * i))) (hn : (∀ i, i < cnt t → inn t i ≠ j) → post (-1)) : wpY_rowOf post (nI c, fr, b1, b2, b3) (nI t) (nI j) := by
  refine ⟨vp_in_nI (by omega) (by omega), nm_r (e' := nI (cnt t) - 1) (by rw [nI_clamp (by omega), hY.2.1 t ht]) ⟨cnt t + 1, ?_⟩⟩
  exact ir_fYl hO hY ht hj hf hn (cnt t) (-1) (by omega) (Or.inl ⟨rfl, fun i h1 h2 => by omega⟩)
theorem ir_uq {t i r j : Nat} (hO : ir_Ok c cf cnt inn out nm fl) (hi : i < cnt t) (ei : inn t i = j) (hr : r < cnt t) (er : inn t r = j) : r = i := by
  rcases Nat.lt_trichotomy r i with z | z | z
  · exact absurd (er.trans ei.symm) (hO.2.2.2.2.2 t r i z hi)
  · exact z
  · exact absurd (ei.trans er.symm) (hO.2.2.2.2.2 t i r z hr)
theorem ir_fXy {post : Int32 → Prop} {t j i : Nat} (hO : ir_Ok c cf cnt inn out nm fl) (hX : ir_X cf cnt inn out nm fl a1 a2 a3 a4 a5 a6) (ht : t ≤ 8) (hj : j ≤ 8)
    (hi : i < cnt t) (e : inn t i = j) (hp : post (nI (t * 6 + i))) : wpX_findRow post (nI c, a1, a2, a3, a4, a5, a6) (nI t) (nI j) :=
  ir_fX hO hX ht hj (fun r hr er => by rw [ir_uq hO hi e hr er]; exact hp) (fun h => absurd e (h i hi))
theorem ir_fXn {post : Int32 → Prop} {t j : Nat} (hO : ir_Ok c cf cnt inn out nm fl) (hX : ir_X cf cnt inn out nm fl a1 a2 a3 a4 a5 a6) (ht : t ≤ 8) (hj : j ≤ 8)
    (h : ∀ i, i < cnt t → inn t i ≠ j) (hp : post (-1)) : wpX_findRow post (nI c, a1, a2, a3, a4, a5, a6) (nI t) (nI j) :=
  ir_fX hO hX ht hj (fun r hr er => absurd er (h r hr)) (fun _ => hp)
theorem ir_fYy {post : Int32 → Prop} {t j i : Nat} (hO : ir_Ok c cf cnt inn out nm fl) (hY : ir_Y cf cnt inn out nm fl b1 b2 b3) (ht : t ≤ 8) (hj : j ≤ 8)
    (hi : i < cnt t) (e : inn t i = j) (hp : post (nI (t * 24 + 4 * i))) : wpY_rowOf post (nI c, fr, b1, b2, b3) (nI t) (nI j) :=
  ir_fY hO hY ht hj (fun r hr er => by rw [ir_uq hO hi e hr er]; exact hp) (fun h => absurd e (h i hi))
theorem ir_fYn {post : Int32 → Prop} {t j : Nat} (hO : ir_Ok c cf cnt inn out nm fl) (hY : ir_Y cf cnt inn out nm fl b1 b2 b3) (ht : t ≤ 8) (hj : j ≤ 8)
    (h : ∀ i, i < cnt t → inn t i ≠ j) (hp : post (-1)) : wpY_rowOf post (nI c, fr, b1, b2, b3) (nI t) (nI j) :=
  ir_fY hO hY ht hj (fun r hr er => absurd er (h r hr)) (fun _ => hp)
theorem ir_ex (t j : Nat) : (∃ i, i < cnt t ∧ inn t i = j) ∨ (∀ i, i < cnt t → inn t i ≠ j) := by
  by_cases h : ∃ i, i < cnt t ∧ inn t i = j
  · exact Or.inl h
  · exact Or.inr (fun i hi e => h ⟨i, hi, e⟩)
/-! does t's table list j as t's own? -/
def ir_L (cnt : Nat → Nat) (inn out : Nat → Nat → Nat) (t j : Nat) : Prop := ∃ i, i < cnt t ∧ inn t i = j ∧ out t i = t
theorem ir_lXl {post : Int32 → Prop} {t j : Nat} (hO : ir_Ok c cf cnt inn out nm fl) (hX : ir_X cf cnt inn out nm fl a1 a2 a3 a4 a5 a6) (ht : t ≤ 8) (hj : j ≤ 8)
    (hy : ir_L cnt inn out t j → post (nI t)) (hn : ¬ ir_L cnt inn out t j → post (-6)) :
    ∀ d i, i + d = cnt t → (∀ r, r < i → ¬ (inn t r = j ∧ out t r = t)) → wX_declaringOf_53 post (nI j) (nI t) (nI (t * 6)) (nI (cnt t)) (nI c) a1 a2 a3 a4 a5 a6 (d + 1) (nI i) := by
  have h6 := hO.2.2.1 t
  have hc := hO.1
  intro d
  induction d with
  | zero =>
    intro i hi hl
    exact br_t (nI_le (by omega) (by omega)) (hn (fun ⟨r, hr, e⟩ => hl r (by omega) e))
  | succ d ih =>
    intro i hi hl
    refine br_f (nI_ge (by omega) (by omega)) ?_
    have hr := hO.2.2.2.2.1 t i (by omega)
    have hx := hX.2.2 t i ht (by omega)
    rw [nI_add, nI_clamp (by omega), hx.1, hx.2.1]
    have hv : vp_in (nI (t * 6 + i)) 54 := vp_in_nI (by omega) (by omega)
    have hnext : ¬ (inn t i = j ∧ out t i = t) → ∀ r, r < i + 1 → ¬ (inn t r = j ∧ out t r = t) := by
      intro h r hr
      by_cases z : r = i
      · subst z; exact h
      · exact hl r (by omega)
    exact ⟨hv, pk_eq (inn t i) j (fun e => ⟨hv, pk_eq (out t i) t (fun e2 => hy ⟨i, by omega, e, e2⟩) (fun e2 => nm_r (nI_1 i) (ih (i + 1) (by omega) (hnext (fun h => e2 h.2))))⟩) (fun e => nm_r (nI_1 i) (ih (i + 1) (by omega) (hnext (fun h => e h.1))))⟩
theorem ir_lYl {post : Int32 → Prop} {t j : Nat} (hO : ir_Ok c cf cnt inn out nm fl) (hY : ir_Y cf cnt inn out nm fl b1 b2 b3) (ht : t ≤ 8) (hj : j ≤ 8)
    (hy : ir_L cnt inn out t j → post 1) (hn : ¬ ir_L cnt inn out t j → post 0) :
    ∀ d i, i + d = cnt t → (∀ r, r < i → ¬ (inn t r = j ∧ out t r = t)) → wY_lists_2 post (nI t) (nI j) (nI c) fr b1 b2 b3 (d + 1) (nI i) := by
  have h6 := hO.2.2.1 t
  have hc := hO.1
  intro d
  induction d with
  | zero =>
    intro i hi hl
    refine ⟨vp_in_nI (by omega) (by omega), ?_⟩
    rw [nI_clamp (by omega), hY.2.1 t ht]
    exact br_t (nI_le (by omega) (by omega)) (hn (fun ⟨r, hr, e⟩ => hl r (by omega) e))
  | succ d ih =>
    intro i hi hl
    refine ⟨vp_in_nI (by omega) (by omega), ?_⟩
    rw [nI_clamp (by omega), hY.2.1 t ht]
    refine br_f (nI_ge (by omega) (by omega)) (nm_r (ir_i24 t i) ?_)
    have hr := hO.2.2.2.2.1 t i (by omega)
    have hx := hY.2.2 t i ht (by omega)
    rw [ir_i24a t i 1 (x := 1) rfl, nI_clamp (by omega), nI_clamp (by omega), hx.1, hx.2.1]
    have hnext : ¬ (inn t i = j ∧ out t i = t) → ∀ r, r < i + 1 → ¬ (inn t r = j ∧ out t r = t) := by
      intro h r hr
      by_cases z : r = i
      · subst z; exact h
      · exact hl r (by omega)
    exact ⟨vp_in_nI (by omega) (by omega), pk_eq (inn t i) j (fun e => ⟨vp_in_nI (by omega) (by omega), pk_eq (out t i) t (fun e2 => hy ⟨i, by omega, e, e2⟩) (fun e2 => nm_r (nI_1 i) (ih (i + 1) (by omega) (hnext (fun h => e2 h.2))))⟩) (fun e => nm_r (nI_1 i) (ih (i + 1) (by omega) (hnext (fun h => e h.1))))⟩
theorem ir_lY {post : Int32 → Prop} {t j : Nat} (hO : ir_Ok c cf cnt inn out nm fl) (hY : ir_Y cf cnt inn out nm fl b1 b2 b3) (ht : t ≤ 8) (hj : j ≤ 8)
    (hy : ir_L cnt inn out t j → post 1) (hn : ¬ ir_L cnt inn out t j → post 0) : wpY_lists post (nI c, fr, b1, b2, b3) (nI t) (nI j) :=
  ⟨cnt t + 1, ir_lYl hO hY ht hj hy hn (cnt t) 0 (by omega) (fun r hr => by omega)⟩
end
end
section
/-! the calls that only read -/
section
variable {c : Nat} {cf cnt : Nat → Nat} {inn out nm fl : Nat → Nat → Nat} {a1 a2 a3 a4 a5 a6 : Nat → Int32} {fr : Int64} {b1 b2 b3 : Nat → Int32}
theorem ir_dg {t : Nat} (hO : ir_Ok c cf cnt inn out nm fl) (hX : ir_X cf cnt inn out nm fl a1 a2 a3 a4 a5 a6) (hY : ir_Y cf cnt inn out nm fl b1 b2 b3) (h1 : 1 ≤ t) (h2 : t ≤ c) :
    ∃ r : Int32, (∀ post : Int32 → Prop, post r → wpX_declaringOf post (nI c, a1, a2, a3, a4, a5, a6) (nI t)) ∧ (∀ post : Int32 → Prop, post r → wpY_declaringOf post (nI c, fr, b1, b2, b3) (nI t)) := by
  have hc := hO.1
  have h6 := hO.2.2.1 t
  rcases ir_ex (cnt := cnt) (inn := inn) t t with ⟨i, hi, e⟩ | h
  · have hr := hO.2.2.2.2.1 t i hi
    have hx := hX.2.2 t i (by omega) hi
    have hy := hY.2.2 t i (by omega) hi
    have hXs : ∀ post : Int32 → Prop, ((nI (out t i) = 0 → post 0) ∧ (¬ nI (out t i) = 0 → ∀ x4 : Int32, x4 = nI (out t i) * 6 → (vp_in (nI (out t i)) 9 ∧ (∀ x5 : Int32, x5 = a2 (nI (out t i)).toNatClampNeg → (∃ n53 : Nat, wX_declaringOf_53 post (nI t) (nI (out t i)) x4 x5 (nI c) a1 a2 a3 a4 a5 a6 n53 0))))) → wpX_declaringOf post (nI c, a1, a2, a3, a4, a5, a6) (nI t) := by
      intro post hp
      unfold wpX_declaringOf
      refine ir_kX hc h1 h2 ?_
      refine br_f (by decide) ?_
      refine ir_fXy hO hX (by omega) (by omega) hi e ?_
      refine br_t (nI_pos' (by omega)) ?_
      refine ⟨vp_in_nI (by omega) (by omega), nm_r (e' := nI (out t i)) ?_ hp⟩
      rw [nI_clamp (by omega), hx.2.1]
    have hYs : ∀ post : Int32 → Prop, ((nI (out t i) = 0 → post 0) ∧ (¬ nI (out t i) = 0 → wpY_lists (fun r_18 => ((r_18 = 0 → (post (-6))) ∧ (¬ r_18 = 0 → (post (nI (out t i)))))) (nI c, fr, b1, b2, b3) (nI (out t i)) (nI t))) → wpY_declaringOf post (nI c, fr, b1, b2, b3) (nI t) := by
      intro post hp
      unfold wpY_declaringOf
      refine ir_kY hc h1 h2 ?_
      refine br_f (by decide) ?_
      refine ir_fYy hO hY (by omega) (by omega) hi e ?_
      refine br_t (nI_pos' (by omega)) ?_
      rw [ir_i24a t i 1 (x := 1) rfl]
      refine ⟨vp_in_nI (by omega) (by omega), nm_r (e' := nI (out t i)) ?_ hp⟩
      rw [nI_clamp (by omega), hy.2.1]
    by_cases ho : out t i = 0
    · refine ⟨0, fun post hp => hXs post (pk_eq (out t i) 0 (fun _ => hp) (fun z => absurd ho z)), fun post hp => hYs post (pk_eq (out t i) 0 (fun _ => hp) (fun z => absurd ho z))⟩
    · have hne : ¬ nI (out t i) = 0 := nI_ne0 (by omega) (by omega)
      have hcl : ∀ post : Int32 → Prop, (ir_L cnt inn out (out t i) t → post (nI (out t i))) → (¬ ir_L cnt inn out (out t i) t → post (-6)) → wpX_declaringOf post (nI c, a1, a2, a3, a4, a5, a6) (nI t) := by
        intro post p1 p2
        refine hXs post (br_f hne (nm_r (pk_mul (out t i) 6) ⟨vp_in_nI (by omega) (by omega), nm_r (e' := nI (cnt (out t i))) ?_ ⟨cnt (out t i) + 1, ir_lXl hO hX (by omega) (by omega) p1 p2 (cnt (out t i)) 0 (by omega) (fun r hr => by omega)⟩⟩))
        rw [nI_clamp (by omega), hX.2.1 _ (by omega)]
      have hcy : ∀ post : Int32 → Prop, (ir_L cnt inn out (out t i) t → post (nI (out t i))) → (¬ ir_L cnt inn out (out t i) t → post (-6)) → wpY_declaringOf post (nI c, fr, b1, b2, b3) (nI t) := by
        intro post p1 p2
        exact hYs post (br_f hne (ir_lY hO hY (by omega) (by omega) (fun l => br_f (by decide) (p1 l)) (fun l => br_t rfl (p2 l))))
      by_cases hl : ir_L cnt inn out (out t i) t
      · exact ⟨nI (out t i), fun post hp => hcl post (fun _ => hp) (fun z => absurd hl z), fun post hp => hcy post (fun _ => hp) (fun z => absurd hl z)⟩
      · exact ⟨-6, fun post hp => hcl post (fun z => absurd z hl) (fun _ => hp), fun post hp => hcy post (fun z => absurd z hl) (fun _ => hp)⟩
  · refine ⟨0, fun post hp => ?_, fun post hp => ?_⟩
    · unfold wpX_declaringOf
      refine ir_kX hc h1 h2 ?_
      refine br_f (by decide) ?_
      refine ir_fXn hO hX (by omega) (by omega) h ?_
      exact br_f (by decide) hp
    · unfold wpY_declaringOf
      refine ir_kY hc h1 h2 ?_
      refine br_f (by decide) ?_
      refine ir_fYn hO hY (by omega) (by omega) h ?_
      exact br_f (by decide) hp
theorem ir_dgn {p : Int32} (h : p < 1 ∨ (¬ p < 1 ∧ nI c < p)) :
    (∀ post : Int32 → Prop, post (-1) → wpX_declaringOf post (nI c, a1, a2, a3, a4, a5, a6) p) ∧ (∀ post : Int32 → Prop, post (-1) → wpY_declaringOf post (nI c, fr, b1, b2, b3) p) := by
  refine ⟨fun post hp => ?_, fun post hp => ?_⟩
  · unfold wpX_declaringOf
    refine ir_nX h ?_
    exact br_t rfl hp
  · unfold wpY_declaringOf
    refine ir_nY h ?_
    exact br_t rfl hp
theorem ir_mo {t : Nat} (hO : ir_Ok c cf cnt inn out nm fl) (hX : ir_X cf cnt inn out nm fl a1 a2 a3 a4 a5 a6) (hY : ir_Y cf cnt inn out nm fl b1 b2 b3) (h1 : 1 ≤ t) (h2 : t ≤ c) :
    ∃ r : Int32, (∀ post : Int32 → Prop, post r → wpX_modifiersOf post (nI c, a1, a2, a3, a4, a5, a6) (nI t)) ∧ (∀ post : Int32 → Prop, post r → wpY_modifiersOf post (nI c, fr, b1, b2, b3) (nI t)) := by
  have hc := hO.1
  have h6 := hO.2.2.1 t
  rcases ir_ex (cnt := cnt) (inn := inn) t t with ⟨i, hi, e⟩ | h
  · have hr := hO.2.2.2.2.1 t i hi
    have hx := hX.2.2 t i (by omega) hi
    have hy := hY.2.2 t i (by omega) hi
    refine ⟨nI (fl t i &&& 30239), fun post hp => ?_, fun post hp => ?_⟩
    · unfold wpX_modifiersOf
      refine ir_kX hc h1 h2 ?_
      refine br_f (by decide) ?_
      refine ir_fXy hO hX (by omega) (by omega) hi e ?_
      refine br_f (nI_pos (by omega)) ⟨vp_in_nI (by omega) (by omega), ?_⟩
      rw [nI_clamp (by omega), hx.2.2.2]
      rw [← nx_and] at hp
      exact hp
    · unfold wpY_modifiersOf
      refine ir_kY hc h1 h2 ?_
      refine br_f (by decide) ?_
      refine ir_fYy hO hY (by omega) (by omega) hi e ?_
      refine br_t (nI_pos' (by omega)) ?_
      rw [ir_i24a t i 3 (x := 3) rfl]
      refine ⟨vp_in_nI (by omega) (by omega), nm_r (e' := nI (fl t i)) (by rw [nI_clamp (by omega), hy.2.2.2]) ⟨17, ?_⟩⟩
      have k := ir_mloop (x2 := nI (t * 24 + 4 * i)) (z := 1) (w := fl t i) (M := 30239) (fc := nI c) (fr := fr) (b1 := b1) (b2 := b2) (b3 := b3) (by decide) narrow_b1 (Or.inr ⟨nI_pos (by omega), rfl⟩) ir_ls1 hp 16 0 (by omega)
      rw [Nat.pow_zero, Nat.mod_one] at k
      exact k
  · refine ⟨nI (cf t &&& 30225), fun post hp => ?_, fun post hp => ?_⟩
    · unfold wpX_modifiersOf
      refine ir_kX hc h1 h2 ?_
      refine br_f (by decide) ?_
      refine ir_fXn hO hX (by omega) (by omega) h ?_
      refine br_t (by decide) ⟨vp_in_nI (by omega) (by omega), ?_⟩
      rw [nI_clamp (by omega), hX.1 t (by omega)]
      rw [← nx_and] at hp
      exact hp
    · unfold wpY_modifiersOf
      refine ir_kY hc h1 h2 ?_
      refine br_f (by decide) ?_
      refine ir_fYn hO hY (by omega) (by omega) h ?_
      refine br_f (by decide) ?_
      refine ⟨vp_in_nI (by omega) (by omega), nm_r (e' := nI (cf t)) (by rw [nI_clamp (by omega), hY.1 t (by omega)]) ⟨17, ?_⟩⟩
      have k := ir_mloop (x2 := -1) (z := 0) (w := cf t) (M := 30225) (fc := nI c) (fr := fr) (b1 := b1) (b2 := b2) (b3 := b3) (by decide) narrow_b0 (Or.inl ⟨by decide, rfl⟩) ir_ls0 hp 16 0 (by omega)
      rw [Nat.pow_zero, Nat.mod_one] at k
      exact k
theorem ir_dX {post : Int64 → Prop} {t : Nat} (hO : ir_Ok c cf cnt inn out nm fl) (hX : ir_X cf cnt inn out nm fl a1 a2 a3 a4 a5 a6) (ht : t ≤ 8)
    (hp : ∀ s : Int64, (∀ b, b < 64 → (ir_bt s b = true ↔ ir_L cnt inn out t b)) → post s) :
    ∀ d i s, i + d = cnt t → (∀ b, b < 64 → (ir_bt s b = true ↔ ∃ r, r < i ∧ inn t r = b ∧ out t r = t)) → wX_declaredOf_31 post (nI t) (nI (t * 6)) (nI (cnt t)) (nI c) a1 a2 a3 a4 a5 a6 (d + 1) s (nI i) := by
  have h6 := hO.2.2.1 t
  have hc := hO.1
  intro d
  induction d with
  | zero =>
    intro i s hi hl
    refine br_t (nI_le (by omega) (by omega)) (hp s (fun b hb => ?_))
    have : i = cnt t := by omega
    subst this
    exact hl b hb
  | succ d ih =>
    intro i s hi hl
    refine br_f (nI_ge (by omega) (by omega)) ?_
    have hr := hO.2.2.2.2.1 t i (by omega)
    have hx := hX.2.2 t i ht (by omega)
    rw [nI_add, nI_clamp (by omega), hx.1, hx.2.1]
    have hv : vp_in (nI (t * 6 + i)) 54 := vp_in_nI (by omega) (by omega)
    refine ⟨hv, pk_eq (out t i) t (fun e => ⟨hv, nm_e (nm_r (nI_1 i) (ih (i + 1) _ (by omega) (fun b hb => ?_)))⟩) (fun e => nm_r (nI_1 i) (ih (i + 1) _ (by omega) (fun b hb => ?_)))⟩
    · rw [ir_bt_or, ir_bt_1 (by omega) hb, hl b hb]
      constructor
      · rintro (⟨r, h1, h2⟩ | h)
        · exact ⟨r, by omega, h2⟩
        · exact ⟨i, by omega, h, e⟩
      · rintro ⟨r, h1, h2, h3⟩
        by_cases z : r = i
        · subst z; exact Or.inr h2
        · exact Or.inl ⟨r, by omega, h2, h3⟩
    · rw [hl b hb]
      constructor
      · rintro ⟨r, h1, h2⟩
        exact ⟨r, by omega, h2⟩
      · rintro ⟨r, h1, h2, h3⟩
        by_cases z : r = i
        · subst z; exact absurd h3 e
        · exact ⟨r, by omega, h2, h3⟩
theorem ir_dY {post : Int64 → Prop} {t : Nat} (hO : ir_Ok c cf cnt inn out nm fl) (hY : ir_Y cf cnt inn out nm fl b1 b2 b3) (ht : t ≤ 8)
    (hp : ∀ s : Int64, (∀ b, b < 64 → (ir_bt s b = true ↔ ir_L cnt inn out t b)) → post s) :
    ∀ d i s, i + d = c + 1 → (∀ b, b < 64 → (ir_bt s b = true ↔ b < i ∧ ir_L cnt inn out t b)) → wY_declaredOf_17 post (nI t) (nI c) fr b1 b2 b3 (d + 1) s (nI i) := by
  have hc := hO.1
  intro d
  induction d with
  | zero =>
    intro i s hi hl
    refine br_t (nI_lt (by omega) (by omega)) (hp s (fun b hb => ?_))
    rw [hl b hb]
    refine ⟨fun h => h.2, fun h => ⟨?_, h⟩⟩
    obtain ⟨r, h1, h2, _⟩ := h
    have := hO.2.2.2.2.1 t r h1
    omega
  | succ d ih =>
    intro i s hi hl
    refine br_f (nI_nlt (by omega) (by omega)) (ir_lY hO hY ht (by omega) (fun l => br_f (by decide) (nm_e (nm_r (nI_1 i) (ih (i + 1) _ (by omega) (fun b hb => ?_))))) (fun l => br_t rfl (nm_r (nI_1 i) (ih (i + 1) _ (by omega) (fun b hb => ?_)))))
    · rw [ir_bt_or, ir_bt_1 (by omega) hb, hl b hb]
      constructor
      · rintro (⟨h1, h2⟩ | h)
        · exact ⟨by omega, h2⟩
        · subst h; exact ⟨by omega, l⟩
      · rintro ⟨h1, h2⟩
        by_cases z : b = i
        · exact Or.inr z.symm
        · exact Or.inl ⟨by omega, h2⟩
    · rw [hl b hb]
      constructor
      · rintro ⟨h1, h2⟩
        exact ⟨by omega, h2⟩
      · rintro ⟨h1, h2⟩
        by_cases z : b = i
        · subst z; exact absurd h2 l
        · exact ⟨by omega, h2⟩
theorem ir_dcX {post : Int64 → Prop} {t : Nat} (hO : ir_Ok c cf cnt inn out nm fl) (hX : ir_X cf cnt inn out nm fl a1 a2 a3 a4 a5 a6) (h1 : 1 ≤ t) (h2 : t ≤ c)
    (hp : ∀ s : Int64, (∀ b, b < 64 → (ir_bt s b = true ↔ ir_L cnt inn out t b)) → post s) : wpX_declaredOf post (nI c, a1, a2, a3, a4, a5, a6) (nI t) := by
  have hc := hO.1
  unfold wpX_declaredOf
  refine ir_kX hc h1 h2 ?_
  refine br_f (by decide) ?_
  refine nm_r (pk_mul t 6) ⟨vp_in_nI (by omega) (by omega), nm_r (e' := nI (cnt t)) (by rw [nI_clamp (by omega), hX.2.1 t (by omega)]) ⟨cnt t + 1, ?_⟩⟩
  refine ir_dX hO hX (by omega) hp (cnt t) 0 0 (by omega) (fun b hb => ?_)
  rw [ir_bt_0]
  exact ⟨(fun z => nomatch z), fun ⟨r, h, _⟩ => absurd h (by omega)⟩
theorem ir_dcY {post : Int64 → Prop} {t : Nat} (hO : ir_Ok c cf cnt inn out nm fl) (hY : ir_Y cf cnt inn out nm fl b1 b2 b3) (h1 : 1 ≤ t) (h2 : t ≤ c)
    (hp : ∀ s : Int64, (∀ b, b < 64 → (ir_bt s b = true ↔ ir_L cnt inn out t b)) → post s) : wpY_declaredOf post (nI c, fr, b1, b2, b3) (nI t) := by
  have hc := hO.1
  unfold wpY_declaredOf
  refine ir_kY hc h1 h2 ?_
  refine br_f (by decide) ⟨c + 1, ?_⟩
  refine ir_dY hO hY (by omega) hp c 1 0 (by omega) (fun b hb => ?_)
  rw [ir_bt_0]
  refine ⟨(fun z => nomatch z), fun ⟨h, r, h3, h4, _⟩ => ?_⟩
  have := hO.2.2.2.2.1 t r h3
  omega
theorem ir_sb {t : Nat} (hO : ir_Ok c cf cnt inn out nm fl) (hX : ir_X cf cnt inn out nm fl a1 a2 a3 a4 a5 a6) (hY : ir_Y cf cnt inn out nm fl b1 b2 b3) (h1 : 1 ≤ t) (h2 : t ≤ c) :
    ∃ r : Int32, (∀ post : Int32 → Prop, post r → wpX_simpleBinaryNameOf post (nI c, a1, a2, a3, a4, a5, a6) (nI t)) ∧ (∀ post : Int32 → Prop, post r → wpY_simpleBinaryNameOf post (nI c, fr, b1, b2, b3) (nI t)) := by
  have hc := hO.1
  have h6 := hO.2.2.1 t
  obtain ⟨d, dX, dY⟩ := ir_dg (fr := fr) hO hX hY h1 h2
  by_cases e6 : d = -6
  · refine ⟨-6, fun post hp => ?_, fun post hp => ?_⟩
    · unfold wpX_simpleBinaryNameOf
      refine ir_kX hc h1 h2 ?_
      refine br_f (by decide) (dX _ ?_)
      exact br_t e6 hp
    · unfold wpY_simpleBinaryNameOf
      refine ir_kY hc h1 h2 ?_
      refine br_f (by decide) (dY _ ?_)
      exact br_t e6 hp
  by_cases e0 : d = 0
  · refine ⟨-7, fun post hp => ?_, fun post hp => ?_⟩
    · unfold wpX_simpleBinaryNameOf
      refine ir_kX hc h1 h2 ?_
      refine br_f (by decide) (dX _ ?_)
      exact br_f e6 (br_t e0 hp)
    · unfold wpY_simpleBinaryNameOf
      refine ir_kY hc h1 h2 ?_
      refine br_f (by decide) (dY _ ?_)
      exact br_f e6 (br_t e0 hp)
  rcases ir_ex (cnt := cnt) (inn := inn) t t with ⟨i, hi, e⟩ | h
  · have hx := hX.2.2 t i (by omega) hi
    have hy := hY.2.2 t i (by omega) hi
    refine ⟨nI (nm t i), fun post hp => ?_, fun post hp => ?_⟩
    · unfold wpX_simpleBinaryNameOf
      refine ir_kX hc h1 h2 ?_
      refine br_f (by decide) (dX _ ?_)
      refine br_f e6 (br_f e0 (ir_fXy hO hX (by omega) (by omega) hi e ?_))
      refine br_t (nI_pos' (by omega)) ⟨vp_in_nI (by omega) (by omega), ?_⟩
      rw [nI_clamp (by omega), hx.2.2.1]
      exact hp
    · unfold wpY_simpleBinaryNameOf
      refine ir_kY hc h1 h2 ?_
      refine br_f (by decide) (dY _ ?_)
      refine br_f e6 (br_f e0 (ir_fYy hO hY (by omega) (by omega) hi e ?_))
      refine br_t (nI_pos' (by omega)) ?_
      rw [ir_i24a t i 2 (x := 2) rfl, nI_clamp (by omega), hy.2.2.1]
      exact ⟨vp_in_nI (by omega) (by omega), hp⟩
  · refine ⟨-7, fun post hp => ?_, fun post hp => ?_⟩
    · unfold wpX_simpleBinaryNameOf
      refine ir_kX hc h1 h2 ?_
      refine br_f (by decide) (dX _ ?_)
      refine br_f e6 (br_f e0 (ir_fXn hO hX (by omega) (by omega) h ?_))
      exact br_f (by decide) hp
    · unfold wpY_simpleBinaryNameOf
      refine ir_kY hc h1 h2 ?_
      refine br_f (by decide) (dY _ ?_)
      refine br_f e6 (br_f e0 (ir_fYn hO hY (by omega) (by omega) h ?_))
      exact br_f (by decide) hp
end
end
section
/-! the chain of outer items: X's walk, Y's passes -/
section
variable {c : Nat} {cf cnt : Nat → Nat} {inn out nm fl : Nat → Nat → Nat} {a1 a2 a3 a4 a5 a6 : Nat → Int32} {fr : Int64} {b1 b2 b3 : Nat → Int32}
theorem ir_z {t : Nat} (hO : ir_Ok c cf cnt inn out nm fl) (k : Nat) : ir_it (ir_nx (inn t) (out t) (cnt t)) k 0 = 0 :=
  ir_it_fix _ (ir_nx_no _ (fun i hi w => by have := (hO.2.2.2.2.1 t i hi).1; omega)) k
theorem ir_cX {post : Int32 → SX → Prop} {t j : Nat} {x3 x4 x5 : Int32} (hO : ir_Ok c cf cnt inn out nm fl) (hX : ir_X cf cnt inn out nm fl a1 a2 a3 a4 a5 a6) (ht : t ≤ 8) (hj1 : 1 ≤ j) (hj : j ≤ 8) :
    ∀ d st o, st + d = 8 → o ≤ 8 → ((∃ k, k < d ∧ ir_it (ir_nx (inn t) (out t) (cnt t)) k o = j) → post (-8) (nI c, a1, a2, a3, a4, a5, a6)) →
      ((∀ k, k < d → ir_it (ir_nx (inn t) (out t) (cnt t)) k o ≠ j) → wX_addRow_118 post (nI t) (nI j) x3 x4 x5 (nI c) a1 a2 a3 a4 a5 a6) →
      wX_addRow_62 post (nI t) (nI j) x3 x4 x5 (nI c) a1 a2 a3 a4 a5 a6 (d + 1) (nI o) (nI st) := by
  have hc := hO.1
  have h6 := hO.2.2.1 t
  intro d
  induction d with
  | zero =>
    intro st o hs ho hy hn
    exact br_t (nI_le (a := 8) (by omega) (by omega)) (hn (fun k hk => by omega))
  | succ d ih =>
    intro st o hs ho hy hn
    refine br_f (nI_ge (a := st) (b := 8) (by omega) (by decide)) ?_
    by_cases z : o = 0
    · subst z
      exact br_t rfl (hn (fun k _ w => by rw [ir_z hO] at w; omega))
    refine br_f (nI_ne0 (by omega) (by omega)) ?_
    by_cases zj : o = j
    · exact br_t (congrArg nI zj) (hy ⟨0, by omega, zj⟩)
    refine br_f (fun w => zj ((nI_eq (by omega) (by omega)).mp w)) ?_
    rcases ir_ex (cnt := cnt) (inn := inn) t o with ⟨i, hi, e⟩ | h
    · have en : ir_nx (inn t) (out t) (cnt t) o = out t i := ir_nx_yes _ (fun i j h1 h2 => hO.2.2.2.2.2 t i j h1 h2) i hi e
      have hr := hO.2.2.2.2.1 t i hi
      refine ir_fXy hO hX ht ho hi e ?_
      refine br_t (nI_pos' (by omega)) ⟨vp_in_nI (by omega) (by omega), nm_r (e' := nI (out t i)) (by rw [nI_clamp (by omega), (hX.2.2 t i ht hi).2.1]) (nm_r (nI_1 st) (ih (st + 1) (out t i) (by omega) (by omega) ?_ ?_))⟩
      · rintro ⟨k, hk, ek⟩
        refine hy ⟨k + 1, by omega, ?_⟩
        show ir_it _ k (ir_nx (inn t) (out t) (cnt t) o) = j
        rw [en]
        exact ek
      · intro h
        refine hn (fun k hk w => ?_)
        cases k with
        | zero => exact zj w
        | succ k =>
          have w2 : ir_it (ir_nx (inn t) (out t) (cnt t)) k (ir_nx (inn t) (out t) (cnt t) o) = j := w
          rw [en] at w2
          exact h k (by omega) w2
    · have en : ir_nx (inn t) (out t) (cnt t) o = 0 := ir_nx_no _ h
      refine ir_fXn hO hX ht ho h ?_
      refine br_f (by decide) (hn (fun k hk w => ?_))
      cases k with
      | zero => exact zj w
      | succ k =>
        have w2 : ir_it (ir_nx (inn t) (out t) (cnt t)) k (ir_nx (inn t) (out t) (cnt t) o) = j := w
        rw [en, ir_z hO] at w2
        omega
theorem ir_pYl {post : Int64 → SY → Prop} {t : Nat} (hO : ir_Ok c cf cnt inn out nm fl) (hY : ir_Y cf cnt inn out nm fl b1 b2 b3) (ht : t ≤ 8) :
    ∀ d i s, i + d = cnt t → post (ir_ps (inn t) (out t) d i s) (nI c, ir_ps (inn t) (out t) d i s, b1, b2, b3) → wY_pass_8 post (nI t) (nI c) fr b1 b2 b3 (d + 1) s (nI i) := by
  have hc := hO.1
  have h6 := hO.2.2.1 t
  intro d
  induction d with
  | zero =>
    intro i s hi hp
    refine ⟨vp_in_nI (by omega) (by omega), ?_⟩
    rw [nI_clamp (by omega), hY.2.1 t ht]
    exact br_t (nI_le (by omega) (by omega)) hp
  | succ d ih =>
    intro i s hi hp
    have hr := hO.2.2.2.2.1 t i (by omega)
    have hx := hY.2.2 t i ht (by omega)
    refine ⟨vp_in_nI (by omega) (by omega), ?_⟩
    rw [nI_clamp (by omega), hY.2.1 t ht]
    refine br_f (nI_ge (by omega) (by omega)) (nm_r (ir_i24 t i) ?_)
    rw [ir_i24a t i 1 (x := 1) rfl, nI_clamp (by omega), nI_clamp (by omega), hx.1, hx.2.1]
    refine ⟨vp_in_nI (by omega) (by omega), ?_⟩
    have hp2 : post (ir_ps (inn t) (out t) d (i + 1) (if ir_bt s (inn t i) = true then s ||| ((1 : Int64) <<< ((nI (out t i)).toInt64 &&& 63)) else s)) (nI c, ir_ps (inn t) (out t) d (i + 1) (if ir_bt s (inn t i) = true then s ||| ((1 : Int64) <<< ((nI (out t i)).toInt64 &&& 63)) else s), b1, b2, b3) := hp
    by_cases hb : ir_bt s (inn t i) = false
    · rw [if_neg (fun w => by rw [hb] at w; exact nomatch w)] at hp2
      exact br_t ((ir_tst (by omega)).mpr hb) (nm_r (nI_1 i) (ih (i + 1) _ (by omega) hp2))
    · rw [if_pos (ts_nf hb)] at hp2
      exact br_f (fun w => hb ((ir_tst (by omega)).mp w)) ⟨vp_in_nI (by omega) (by omega), nm_e (nm_r (nI_1 i) (ih (i + 1) _ (by omega) hp2))⟩
theorem ir_pY {post : Int64 → SY → Prop} {t : Nat} {s : Int64} (hO : ir_Ok c cf cnt inn out nm fl) (hY : ir_Y cf cnt inn out nm fl b1 b2 b3) (ht : t ≤ 8)
    (hp : post (ir_ps (inn t) (out t) (cnt t) 0 s) (nI c, ir_ps (inn t) (out t) (cnt t) 0 s, b1, b2, b3)) : wpY_pass post (nI c, s, b1, b2, b3) (nI t) :=
  ⟨cnt t + 1, ir_pYl hO hY ht (cnt t) 0 s (by omega) hp⟩
theorem ir_clY {post : Int32 → SY → Prop} {t j : Nat} (hO : ir_Ok c cf cnt inn out nm fl) (hY : ir_Y cf cnt inn out nm fl b1 b2 b3) (ht : t ≤ 8) (hj : j ≤ 8) :
    ∀ d p s, p ≤ 8 → (d = 0 → cnt t ≤ p) → (d ≠ 0 → p + d = cnt t) →
      (ir_bt (ir_it (ir_ps (inn t) (out t) (cnt t) 0) (d + 1) s) j = true → post 1 (nI c, ir_it (ir_ps (inn t) (out t) (cnt t) 0) (d + 1) s, b1, b2, b3)) →
      (ir_bt (ir_it (ir_ps (inn t) (out t) (cnt t) 0) (d + 1) s) j = false → post 0 (nI c, ir_it (ir_ps (inn t) (out t) (cnt t) 0) (d + 1) s, b1, b2, b3)) →
      wY_closes_10 post (nI t) (nI j) (d + 1) (nI p) (nI c) s b1 b2 b3 := by
  have hc := hO.1
  have h6 := hO.2.2.1 t
  intro d
  induction d with
  | zero =>
    intro p s hp8 h0 _ hy hn
    refine ⟨vp_in_nI (by omega) (by omega), ?_⟩
    rw [nI_clamp (by omega), hY.2.1 t ht]
    refine br_t (nI_le (h0 rfl) (by omega)) (ir_pY hO hY ht ?_)
    by_cases hb : ir_bt (ir_it (ir_ps (inn t) (out t) (cnt t) 0) (0 + 1) s) j = false
    · exact br_t ((ir_tst (by omega)).mpr hb) (hn hb)
    · exact br_f (fun w => hb ((ir_tst (by omega)).mp w)) (hy (ts_nf hb))
  | succ d ih =>
    intro p s hp8 _ h1 hy hn
    have h1 := h1 (by omega)
    refine ⟨vp_in_nI (by omega) (by omega), ?_⟩
    rw [nI_clamp (by omega), hY.2.1 t ht]
    refine br_f (nI_ge (by omega) (by omega)) (ir_pY hO hY ht ?_)
    exact nm_r (nI_1 p) (ih (p + 1) _ (by omega) (by omega) (by omega) hy hn)
def ir_R (cnt : Nat → Nat) (inn out : Nat → Nat → Nat) (t o j : Nat) : Prop := ∃ k, k ≤ cnt t ∧ ir_it (ir_nx (inn t) (out t) (cnt t)) k o = j
theorem ir_cY {t j o : Nat} (hO : ir_Ok c cf cnt inn out nm fl) (hY : ir_Y cf cnt inn out nm fl b1 b2 b3) (ht : t ≤ 8) (hj1 : 1 ≤ j) (hj : j ≤ 8) (ho : o ≤ 8) :
    ∃ s : Int64, ∀ post : Int32 → SY → Prop, (ir_R cnt inn out t o j → post 1 (nI c, s, b1, b2, b3)) → (¬ ir_R cnt inn out t o j → post 0 (nI c, s, b1, b2, b3)) → wpY_closes post (nI c, fr, b1, b2, b3) (nI t) (nI j) (nI o) := by
  have hc := hO.1
  have h6 := hO.2.2.1 t
  have key := ir_closed (f := inn t) (g := out t) (n := cnt t) (a := o) (b := j) (m := cnt t - 1 + 1) (fun i hi => by have := hO.2.2.2.2.1 t i hi; omega) (fun i hi => by have := hO.2.2.2.2.1 t i hi; omega) (fun i j h1 h2 => hO.2.2.2.2.2 t i j h1 h2) (by omega) (by omega) (by omega) (by omega)
  refine ⟨ir_it (ir_ps (inn t) (out t) (cnt t) 0) (cnt t - 1 + 1) ((1 : Int64) <<< ((nI o).toInt64 &&& 63)), fun post hy hn => nm_e ⟨cnt t - 1 + 1, ?_⟩⟩
  exact ir_clY hO hY ht hj (cnt t - 1) 1 _ (by omega) (by omega) (by omega) (fun w => hy (key.mp w)) (fun w => hn (fun r => by rw [key.mpr r] at w; exact nomatch w))
theorem ir_cR {t j o : Nat} (hO : ir_Ok c cf cnt inn out nm fl) (hj1 : 1 ≤ j) (h : ¬ ir_R cnt inn out t o j) (k : Nat) : ir_it (ir_nx (inn t) (out t) (cnt t)) k o ≠ j := by
  intro w
  exact h (ir_short (fun i hi e => by have := (hO.2.2.2.2.1 t i hi).1; omega) (by omega) ⟨k, w⟩)
end
end
section
/-! a new row -/
def ir_p1 (g : Nat → Nat) (t x : Nat) : Nat → Nat := fun s => if s = t then x else g s
def ir_p2 (g : Nat → Nat → Nat) (t i x : Nat) : Nat → Nat → Nat := fun s r => if s = t ∧ r = i then x else g s r
theorem ir_p1s {g : Nat → Nat} {t x : Nat} : ir_p1 g t x t = x := if_pos rfl
theorem ir_p1n {g : Nat → Nat} {t x s : Nat} (h : s ≠ t) : ir_p1 g t x s = g s := if_neg h
theorem ir_p2s {g : Nat → Nat → Nat} {t i x : Nat} : ir_p2 g t i x t i = x := if_pos ⟨rfl, rfl⟩
theorem ir_p2n {g : Nat → Nat → Nat} {t i x s r : Nat} (h : ¬ (s = t ∧ r = i)) : ir_p2 g t i x s r = g s r := if_neg h
section
variable {c : Nat} {cf cnt : Nat → Nat} {inn out nm fl : Nat → Nat → Nat} {a1 a2 a3 a4 a5 a6 : Nat → Int32} {fr : Int64} {b1 b2 b3 : Nat → Int32}
theorem ir_old {t s r : Nat} (hr : r < ir_p1 cnt t (cnt t + 1) s) (z : ¬ (s = t ∧ r = cnt t)) : r < cnt s := by
  by_cases e : s = t
  · have e := e.symm
    subst e
    rw [ir_p1s] at hr
    have : r ≠ cnt t := fun w => z ⟨rfl, w⟩
    omega
  · rw [ir_p1n e] at hr
    exact hr
theorem ir_putO {t j o n f : Nat} (hO : ir_Ok c cf cnt inn out nm fl) (ht : t ≤ c) (hj1 : 1 ≤ j) (hj : j ≤ c) (ho : o ≤ c) (hn : n < 65536) (hf : f < 65536) (h6 : cnt t < 6) (hd : ∀ i, i < cnt t → inn t i ≠ j) :
    ir_Ok c cf (ir_p1 cnt t (cnt t + 1)) (ir_p2 inn t (cnt t) j) (ir_p2 out t (cnt t) o) (ir_p2 nm t (cnt t) n) (ir_p2 fl t (cnt t) f) := by
  obtain ⟨g1, g2, g3, g4, g5, g6⟩ := hO
  refine ⟨g1, g2, fun s => ?_, fun s hs => ?_, fun s r hr => ?_, fun s r q hrq hq => ?_⟩
  · by_cases e : s = t
    · rw [e, ir_p1s]; omega
    · rw [ir_p1n e]; exact g3 s
  · rw [ir_p1n (by omega)]; exact g4 s hs
  · by_cases z : s = t ∧ r = cnt t
    · rw [z.1, z.2, ir_p2s, ir_p2s, ir_p2s, ir_p2s]
      exact ⟨hj1, hj, ho, hn, hf⟩
    · rw [ir_p2n z, ir_p2n z, ir_p2n z, ir_p2n z]
      exact g5 s r (ir_old hr z)
  · by_cases z : s = t ∧ q = cnt t
    · rw [z.1, z.2, ir_p2s, ir_p2n (fun w => by omega)]
      exact hd r (by omega)
    · have h1 := ir_old hq z
      have z2 : ¬ (s = t ∧ r = cnt t) := by
        intro w
        rw [w.1] at h1
        omega
      rw [ir_p2n z, ir_p2n z2]
      exact g6 s r q hrq h1
theorem ir_putX {t j o n f : Nat} (hO : ir_Ok c cf cnt inn out nm fl) (hX : ir_X cf cnt inn out nm fl a1 a2 a3 a4 a5 a6) (h6 : cnt t < 6) :
    ir_X cf (ir_p1 cnt t (cnt t + 1)) (ir_p2 inn t (cnt t) j) (ir_p2 out t (cnt t) o) (ir_p2 nm t (cnt t) n) (ir_p2 fl t (cnt t) f)
      a1 (upd a2 t (nI (cnt t + 1))) (upd a3 (t * 6 + cnt t) (nI j)) (upd a4 (t * 6 + cnt t) (nI o)) (upd a5 (t * 6 + cnt t) (nI n)) (upd a6 (t * 6 + cnt t) (nI f)) := by
  refine ⟨hX.1, fun s hs => ?_, fun s r hs hr => ?_⟩
  · by_cases e : s = t
    · rw [e, ir_p1s, pk_us]
    · rw [ir_p1n e, pk_un e]; exact hX.2.1 s hs
  · by_cases z : s = t ∧ r = cnt t
    · rw [z.1, z.2, ir_p2s, ir_p2s, ir_p2s, ir_p2s, pk_us, pk_us, pk_us, pk_us]
      exact ⟨rfl, rfl, rfl, rfl⟩
    · have h1 := ir_old hr z
      have h2 := hO.2.2.1 s
      have hne : s * 6 + r ≠ t * 6 + cnt t := by omega
      rw [ir_p2n z, ir_p2n z, ir_p2n z, ir_p2n z, pk_un hne, pk_un hne, pk_un hne, pk_un hne]
      exact hX.2.2 s r hs h1
theorem ir_putY {t j o n f : Nat} (hO : ir_Ok c cf cnt inn out nm fl) (hY : ir_Y cf cnt inn out nm fl b1 b2 b3) (h6 : cnt t < 6) :
    ir_Y cf (ir_p1 cnt t (cnt t + 1)) (ir_p2 inn t (cnt t) j) (ir_p2 out t (cnt t) o) (ir_p2 nm t (cnt t) n) (ir_p2 fl t (cnt t) f)
      b1 (upd b2 t (nI (cnt t + 1))) (upd (upd (upd (upd b3 (t * 24 + 4 * cnt t) (nI j)) (t * 24 + 4 * cnt t + 1) (nI o)) (t * 24 + 4 * cnt t + 2) (nI n)) (t * 24 + 4 * cnt t + 3) (nI f)) := by
  refine ⟨hY.1, fun s hs => ?_, fun s r hs hr => ?_⟩
  · by_cases e : s = t
    · rw [e, ir_p1s, pk_us]
    · rw [ir_p1n e, pk_un e]; exact hY.2.1 s hs
  · by_cases z : s = t ∧ r = cnt t
    · rw [z.1, z.2, ir_p2s, ir_p2s, ir_p2s, ir_p2s]
      refine ⟨?_, ?_, ?_, pk_us⟩
      · rw [pk_un (by omega), pk_un (by omega), pk_un (by omega), pk_us]
      · rw [pk_un (by omega), pk_un (by omega), pk_us]
      · rw [pk_un (by omega), pk_us]
    · have h1 := ir_old hr z
      have h2 := hO.2.2.1 s
      have hne : s * 6 + r ≠ t * 6 + cnt t := by omega
      have key : ∀ m, m < 4 → upd (upd (upd (upd b3 (t * 24 + 4 * cnt t) (nI j)) (t * 24 + 4 * cnt t + 1) (nI o)) (t * 24 + 4 * cnt t + 2) (nI n)) (t * 24 + 4 * cnt t + 3) (nI f) (s * 24 + 4 * r + m) = b3 (s * 24 + 4 * r + m) := by
        intro m hm
        rw [pk_un (by omega), pk_un (by omega), pk_un (by omega), pk_un (by omega)]
      have h3 := hY.2.2 s r hs h1
      rw [ir_p2n z, ir_p2n z, ir_p2n z, ir_p2n z]
      exact ⟨(key 0 (by omega)).trans h3.1, (key 1 (by omega)).trans h3.2.1, (key 2 (by omega)).trans h3.2.2.1, (key 3 (by omega)).trans h3.2.2.2⟩
theorem ir_sX {post : Int32 → SX → Prop} {t j o : Nat} {x4 x5 : Int32} (hO : ir_Ok c cf cnt inn out nm fl) (hX : ir_X cf cnt inn out nm fl a1 a2 a3 a4 a5 a6) (ht : t ≤ 8)
    (hy : cnt t < 6 → post 0 (nI c, a1, upd a2 t (nI (cnt t + 1)), upd a3 (t * 6 + cnt t) (nI j), upd a4 (t * 6 + cnt t) (nI o), upd a5 (t * 6 + cnt t) (nI (x4.toBitVec.toNat % 65536)), upd a6 (t * 6 + cnt t) (nI (x5.toBitVec.toNat % 65536))))
    (hn : cnt t = 6 → post (-2) (nI c, a1, a2, a3, a4, a5, a6)) : wX_addRow_118 post (nI t) (nI j) (nI o) x4 x5 (nI c) a1 a2 a3 a4 a5 a6 := by
  have h6 := hO.2.2.1 t
  have hvt : vp_in (nI t) 9 := vp_in_nI (by omega) (by omega)
  refine ⟨hvt, ?_⟩
  rw [nI_clamp (by omega), hX.2.1 t ht]
  refine pk_lt (cnt t) 6 (fun h => ?_) (fun h => hn (by omega))
  have hv : vp_in (nI (t * 6 + cnt t)) 54 := vp_in_nI (by omega) (by omega)
  have hi : nI t * 6 + nI (cnt t) = nI (t * 6 + cnt t) := by
    show nI t * nI 6 + nI (cnt t) = _
    rw [pk_mul, nI_add]
  refine ⟨hvt, nm_r hi ?_⟩
  rw [nI_clamp (by omega), ir_f1, ir_f1, nI_1]
  exact ⟨hv, nm_e ⟨hv, nm_e ⟨hv, nm_e ⟨hv, nm_e ⟨hvt, hvt, nm_e (hy h)⟩⟩⟩⟩⟩
/-- Y's end of addRow, behind closes = false -/
def ir_tY (post : Int32 → SY → Prop) (x1 x2 x3 x4 x5 : Int32) (f_count : Int32) (f_reach : Int64) (a_access a_used a_rows : Nat → Int32) : Prop :=
  vp_in x1 9 ∧ ((((a_used x1.toNatClampNeg) = 6 → (post (-2) (f_count, f_reach, a_access, a_used, a_rows))) ∧ (¬ (a_used x1.toNatClampNeg) = 6 → (vp_in x1 9 ∧ (vp_in x1 9 ∧ ∀ a_used_35 : Nat → Int32, a_used_35 = upd a_used x1.toNatClampNeg (vp_nar .byte (((a_used x1.toNatClampNeg) + 1).toInt8.toInt32)) → (∀ x6_36 : Int32, x6_36 = (x1 * 24) + (4 * (a_used x1.toNatClampNeg)) → (vp_in x6_36 216 ∧ ∀ a_rows_38 : Nat → Int32, a_rows_38 = upd a_rows x6_36.toNatClampNeg (vp_nar .char ((x2.toUInt32 % 65536).toInt32)) → (vp_in (x6_36 + 1) 216 ∧ ∀ a_rows_40 : Nat → Int32, a_rows_40 = upd a_rows_38 (x6_36 + 1).toNatClampNeg (vp_nar .char ((x3.toUInt32 % 65536).toInt32)) → (vp_in (x6_36 + 2) 216 ∧ ∀ a_rows_42 : Nat → Int32, a_rows_42 = upd a_rows_40 (x6_36 + 2).toNatClampNeg (vp_nar .char ((x4.toUInt32 % 65536).toInt32)) → (vp_in (x6_36 + 3) 216 ∧ ∀ a_rows_44 : Nat → Int32, a_rows_44 = upd a_rows_42 (x6_36 + 3).toNatClampNeg (vp_nar .char ((x5.toUInt32 % 65536).toInt32)) → (post 0 (f_count, f_reach, a_access, a_used_35, a_rows_44))))))))))))
theorem ir_sY {post : Int32 → SY → Prop} {t j o : Nat} {x4 x5 : Int32} (hO : ir_Ok c cf cnt inn out nm fl) (hY : ir_Y cf cnt inn out nm fl b1 b2 b3) (ht : t ≤ 8) (hj : j ≤ 8) (ho : o ≤ 8)
    (hy : cnt t < 6 → post 0 (nI c, fr, b1, upd b2 t (nI (cnt t + 1)), upd (upd (upd (upd b3 (t * 24 + 4 * cnt t) (nI j)) (t * 24 + 4 * cnt t + 1) (nI o)) (t * 24 + 4 * cnt t + 2) (nI (x4.toBitVec.toNat % 65536))) (t * 24 + 4 * cnt t + 3) (nI (x5.toBitVec.toNat % 65536))))
    (hn : cnt t = 6 → post (-2) (nI c, fr, b1, b2, b3)) : ir_tY post (nI t) (nI j) (nI o) x4 x5 (nI c) fr b1 b2 b3 := by
  have h6 := hO.2.2.1 t
  have hvt : vp_in (nI t) 9 := vp_in_nI (by omega) (by omega)
  refine ⟨hvt, ?_⟩
  rw [nI_clamp (by omega), hY.2.1 t ht]
  refine pk_eq (cnt t) 6 (fun h => hn h) (fun h => ?_)
  have hi := ir_i24 t (cnt t)
  have hv : ∀ m, m < 4 → vp_in (nI (t * 24 + 4 * cnt t + m)) 216 := fun m hm => vp_in_nI (by omega) (by omega)
  refine ⟨hvt, hvt, nm_r (e' := upd b2 t (nI (cnt t + 1))) (by rw [ir_byN (by omega)]) (nm_r hi ?_)⟩
  rw [ir_i24a t (cnt t) 1 (x := 1) rfl, ir_i24a t (cnt t) 2 (x := 2) rfl, ir_i24a t (cnt t) 3 (x := 3) rfl, nI_clamp (n := t * 24 + 4 * cnt t) (by omega), nI_clamp (n := t * 24 + 4 * cnt t + 1) (by omega), nI_clamp (n := t * 24 + 4 * cnt t + 2) (by omega), nI_clamp (n := t * 24 + 4 * cnt t + 3) (by omega), ir_chN (n := j) (by omega), ir_chN (n := o) (by omega), ir_ch, ir_ch]
  exact ⟨hv 0 (by omega), nm_e ⟨hv 1 (by omega), nm_e ⟨hv 2 (by omega), nm_e ⟨hv 3 (by omega), nm_e (hy (by omega))⟩⟩⟩⟩
theorem ir_aX {post : Int32 → SX → Prop} {t j o : Nat} {x4 x5 : Int32} (hc : c ≤ 8) (ht1 : 1 ≤ t) (ht : t ≤ c) (hj1 : 1 ≤ j) (hj : j ≤ c) (ho : o ≤ c)
    (h : wX_addRow_36 post (nI t) (nI j) (nI o) x4 x5 (nI c) a1 a2 a3 a4 a5 a6) : wpX_addRow post (nI c, a1, a2, a3, a4, a5, a6) (nI t) (nI j) (nI o) x4 x5 := by
  unfold wpX_addRow
  refine ir_kX hc ht1 ht ?_
  refine br_f (by decide) ?_
  refine ir_kX hc hj1 hj ?_
  refine br_f (by decide) ?_
  by_cases z : o = 0
  · subst z
    exact br_t rfl h
  refine br_f (nI_ne0 (by omega) (by omega)) ?_
  refine ir_kX hc (by omega) ho ?_
  exact br_f (by decide) h
theorem ir_aY {post : Int32 → SY → Prop} {t j o : Nat} {x4 x5 : Int32} (hc : c ≤ 8) (ht1 : 1 ≤ t) (ht : t ≤ c) (hj1 : 1 ≤ j) (hj : j ≤ c) (ho : o ≤ c)
    (h : wY_addRow_36 post (nI t) (nI j) (nI o) x4 x5 (nI c) fr b1 b2 b3) : wpY_addRow post (nI c, fr, b1, b2, b3) (nI t) (nI j) (nI o) x4 x5 := by
  unfold wpY_addRow
  refine ir_kY hc ht1 ht ?_
  refine br_f (by decide) ?_
  refine ir_kY hc hj1 hj ?_
  refine br_f (by decide) ?_
  by_cases z : o = 0
  · subst z
    exact br_t rfl h
  refine br_f (nI_ne0 (by omega) (by omega)) ?_
  refine ir_kY hc (by omega) ho ?_
  exact br_f (by decide) h
end
end
section
/-! what is owed -/
section
variable {c : Nat} {cf cnt : Nat → Nat} {inn out nm fl : Nat → Nat → Nat} {a1 a2 a3 a4 a5 a6 : Nat → Int32} {fr : Int64} {b1 b2 b3 : Nat → Int32}
theorem ir_newO {n : Nat} (hO : ir_Ok c cf cnt inn out nm fl) (h8 : c < 8) (hn : n < 32768) : ir_Ok (c + 1) (ir_p1 cf (c + 1) n) cnt inn out nm fl := by
  obtain ⟨g1, g2, g3, g4, g5, g6⟩ := hO
  refine ⟨h8, fun s => ?_, g3, fun s hs => g4 s (by omega), fun s r hr => ?_, g6⟩
  · by_cases e : s = c + 1
    · rw [e, ir_p1s]; exact hn
    · rw [ir_p1n e]; exact g2 s
  · have := g5 s r hr
    exact ⟨this.1, by omega, by omega, this.2.2.2⟩
theorem ir_newX {n : Nat} (hO : ir_Ok c cf cnt inn out nm fl) (hX : ir_X cf cnt inn out nm fl a1 a2 a3 a4 a5 a6) : ir_X (ir_p1 cf (c + 1) n) cnt inn out nm fl (upd a1 (c + 1) (nI n)) (upd a2 (c + 1) 0) a3 a4 a5 a6 := by
  refine ⟨fun s hs => ?_, fun s hs => ?_, hX.2.2⟩
  · by_cases e : s = c + 1
    · rw [e, ir_p1s, pk_us]
    · rw [ir_p1n e, pk_un e]; exact hX.1 s hs
  · by_cases e : s = c + 1
    · rw [e, pk_us, hO.2.2.2.1 (c + 1) (by omega)]; rfl
    · rw [pk_un e]; exact hX.2.1 s hs
theorem ir_newY {n : Nat} (hY : ir_Y cf cnt inn out nm fl b1 b2 b3) : ir_Y (ir_p1 cf (c + 1) n) cnt inn out nm fl (upd b1 (c + 1) (nI n)) b2 b3 := by
  refine ⟨fun s hs => ?_, hY.2.1, hY.2.2⟩
  by_cases e : s = c + 1
  · rw [e, ir_p1s, pk_us]
  · rw [ir_p1n e, pk_un e]; exact hY.1 s hs
theorem ir_ac {k : Nat} (hO : ir_Ok c cf cnt inn out nm fl) (hX : ir_X cf cnt inn out nm fl a1 a2 a3 a4 a5 a6) (hY : ir_Y cf cnt inn out nm fl b1 b2 b3) (v1 : Int32) :
    wpX_addClass (fun r u' => wpY_addClass (fun r' v' => r' = r ∧ i_Rel k u' v') (nI c, fr, b1, b2, b3) v1) (nI c, a1, a2, a3, a4, a5, a6) v1 := by
  have hc := hO.1
  by_cases hb : v1.toBitVec.toNat % 65536 < 32768
  · refine br_t ((ir_f2 v1).mpr hb) ?_
    by_cases h8 : c < 8
    · refine br_t (nI_lt (b := 8) h8 (by decide)) (nm_r (nI_1 c) ?_)
      rw [nI_clamp (by omega), ir_f1]
      refine ⟨vp_in_nI (by omega) (by omega), nm_e ⟨vp_in_nI (by omega) (by omega), nm_e ?_⟩⟩
      refine br_t ((ir_f4 v1).mpr hb) (br_f (fun w => absurd ((nI_eq (b := 8) (by omega) (by decide)).mp w) (by omega)) ?_)
      rw [nI_1, nI_clamp (by omega), ir_f5 hb]
      exact ⟨vp_in_nI (by omega) (by omega), nm_e (nm_e ⟨rfl, ir_in (ir_newO hO h8 hb) (ir_newX hO hX) (ir_newY hY)⟩)⟩
    · have e : c = 8 := by omega
      refine br_f (nI_nlt (b := 8) (by omega) (by omega)) ?_
      exact br_t ((ir_f4 v1).mpr hb) (br_t (congrArg nI e) ⟨rfl, ir_in hO hX hY⟩)
  · refine br_f (fun w => hb ((ir_f2 v1).mp w)) ?_
    exact br_f (fun w => hb ((ir_f4 v1).mp w)) ⟨rfl, ir_in hO hX hY⟩
theorem ir_ar {k : Nat} (hO : ir_Ok c cf cnt inn out nm fl) (hX : ir_X cf cnt inn out nm fl a1 a2 a3 a4 a5 a6) (hY : ir_Y cf cnt inn out nm fl b1 b2 b3) (v1 v2 v3 v4 v5 : Int32) :
    ∃ (r : Int32) (u' : SX) (v' : SY), i_Rel k u' v' ∧ (∀ post : Int32 → SX → Prop, post r u' → wpX_addRow post (nI c, a1, a2, a3, a4, a5, a6) v1 v2 v3 v4 v5) ∧ (∀ post : Int32 → SY → Prop, post r v' → wpY_addRow post (nI c, fr, b1, b2, b3) v1 v2 v3 v4 v5) := by
  have hc := hO.1
  rcases ir_kc v1 hc with ⟨t, ht1, ht, rfl⟩ | h
  rotate_left
  · refine ⟨-1, _, _, ir_in (fr := fr) hO hX hY, fun post hp => ?_, fun post hp => ?_⟩
    · unfold wpX_addRow
      refine ir_nX h ?_
      exact br_t rfl hp
    · unfold wpY_addRow
      refine ir_nY h ?_
      exact br_t rfl hp
  rcases ir_kc v2 hc with ⟨j, hj1, hj, rfl⟩ | h
  rotate_left
  · refine ⟨-3, _, _, ir_in (fr := fr) hO hX hY, fun post hp => ?_, fun post hp => ?_⟩
    · unfold wpX_addRow
      refine ir_kX hc ht1 ht ?_
      refine br_f (by decide) ?_
      refine ir_nX h ?_
      exact br_t rfl hp
    · unfold wpY_addRow
      refine ir_kY hc ht1 ht ?_
      refine br_f (by decide) ?_
      refine ir_nY h ?_
      exact br_t rfl hp
  have h3 : (∃ o, o ≤ c ∧ v3 = nI o) ∨ (¬ v3 = 0 ∧ (v3 < 1 ∨ (¬ v3 < 1 ∧ nI c < v3))) := by
    by_cases z : v3 = 0
    · exact Or.inl ⟨0, by omega, z⟩
    · rcases ir_kc v3 hc with ⟨o, _, ho, e⟩ | h
      · exact Or.inl ⟨o, ho, e⟩
      · exact Or.inr ⟨z, h⟩
  rcases h3 with ⟨o, ho, rfl⟩ | ⟨z, h⟩
  rotate_left
  · refine ⟨-3, _, _, ir_in (fr := fr) hO hX hY, fun post hp => ?_, fun post hp => ?_⟩
    · unfold wpX_addRow
      refine ir_kX hc ht1 ht ?_
      refine br_f (by decide) ?_
      refine ir_kX hc hj1 hj ?_
      refine br_f (by decide) (br_f z ?_)
      refine ir_nX h ?_
      exact br_t rfl hp
    · unfold wpY_addRow
      refine ir_kY hc ht1 ht ?_
      refine br_f (by decide) ?_
      refine ir_kY hc hj1 hj ?_
      refine br_f (by decide) (br_f z ?_)
      refine ir_nY h ?_
      exact br_t rfl hp
  by_cases ejo : j = o
  · exact ⟨-4, _, _, ir_in (fr := fr) hO hX hY, fun post hp => ir_aX hc ht1 ht hj1 hj ho (br_t (congrArg nI ejo) hp), fun post hp => ir_aY hc ht1 ht hj1 hj ho (br_t (congrArg nI ejo) hp)⟩
  have ene : ¬ nI j = nI o := fun w => ejo ((nI_eq (by omega) (by omega)).mp w)
  rcases ir_ex (cnt := cnt) (inn := inn) t j with ⟨i, hi, e⟩ | hno
  · have h6 := hO.2.2.1 t
    exact ⟨-4, _, _, ir_in (fr := fr) hO hX hY, fun post hp => ir_aX hc ht1 ht hj1 hj ho (br_f ene (ir_fXy hO hX (by omega) (by omega) hi e (br_f (nI_pos (by omega)) hp))), fun post hp => ir_aY hc ht1 ht hj1 hj ho (br_f ene (ir_fYy hO hY (by omega) (by omega) hi e (br_f (nI_pos (by omega)) hp)))⟩
  obtain ⟨s, hs⟩ := ir_cY (fr := fr) (o := o) hO hY (t := t) (by omega) hj1 (by omega) (by omega)
  have h6 := hO.2.2.1 t
  have gX : ∀ post : Int32 → SX → Prop, (ir_R cnt inn out t o j → post (-8) (nI c, a1, a2, a3, a4, a5, a6)) → (¬ ir_R cnt inn out t o j → wX_addRow_118 post (nI t) (nI j) (nI o) v4 v5 (nI c) a1 a2 a3 a4 a5 a6) → wpX_addRow post (nI c, a1, a2, a3, a4, a5, a6) (nI t) (nI j) (nI o) v4 v5 := by
    intro post p1 p2
    refine ir_aX hc ht1 ht hj1 hj ho (br_f ene (ir_fXn hO hX (by omega) (by omega) hno (br_t (by decide) ⟨9, ?_⟩)))
    refine ir_cX hO hX (by omega) hj1 (by omega) 8 0 o (by omega) (by omega) ?_ ?_
    · rintro ⟨k, hk, e⟩
      refine p1 (Classical.byContradiction (fun w => ir_cR hO hj1 w k e))
    · intro h
      exact p2 (fun ⟨k, hk, e⟩ => h k (by omega) e)
  have gY : ∀ post : Int32 → SY → Prop, (ir_R cnt inn out t o j → post (-8) (nI c, s, b1, b2, b3)) → (¬ ir_R cnt inn out t o j → ir_tY post (nI t) (nI j) (nI o) v4 v5 (nI c) s b1 b2 b3) → wpY_addRow post (nI c, fr, b1, b2, b3) (nI t) (nI j) (nI o) v4 v5 := by
    intro post p1 p2
    refine ir_aY hc ht1 ht hj1 hj ho (br_f ene (ir_fYn hO hY (by omega) (by omega) hno (br_t (by decide) ?_)))
    refine hs _ ?_ ?_
    · intro w
      exact br_f (by decide) (p1 w)
    · intro w
      exact br_t rfl (p2 w)
  by_cases hR : ir_R cnt inn out t o j
  · exact ⟨-8, _, _, ir_in (fr := s) hO hX hY, fun post hp => gX post (fun _ => hp) (fun w => absurd hR w), fun post hp => gY post (fun _ => hp) (fun w => absurd hR w)⟩
  by_cases hF : cnt t = 6
  · exact ⟨-2, _, _, ir_in (fr := s) hO hX hY, fun post hp => gX post (fun w => absurd w hR) (fun _ => ir_sX hO hX (by omega) (fun w => by omega) (fun _ => hp)), fun post hp => gY post (fun w => absurd w hR) (fun _ => ir_sY hO hY (by omega) (by omega) (by omega) (fun w => by omega) (fun _ => hp))⟩
  · refine ⟨0, _, _, ir_in (fr := s) (ir_putO (j := j) (o := o) (n := v4.toBitVec.toNat % 65536) (f := v5.toBitVec.toNat % 65536) hO ht hj1 hj ho (by omega) (by omega) (by omega) hno) (ir_putX hO hX (by omega)) (ir_putY hO hY (by omega)), fun post hp => gX post (fun w => absurd w hR) (fun _ => ir_sX hO hX (by omega) (fun _ => hp) (fun w => absurd w hF)), fun post hp => gY post (fun w => absurd w hR) (fun _ => ir_sY hO hY (by omega) (by omega) (by omega) (fun _ => hp) (fun w => absurd w hF))⟩
end
theorem i_up {k : Nat} {u : SX} {v : SY} (h : i_Rel k u v) : i_Rel (k + 6) u v := h
theorem i_vc0 : wpX_init (fun u => wpY_init (fun v => i_Rel 0 u v)) := by
  have h : i_Rel 0 (nI 0, (fun _ => 0), (fun _ => 0), (fun _ => 0), (fun _ => 0), (fun _ => 0), (fun _ => 0)) (nI 0, 0, (fun _ => 0), (fun _ => 0), (fun _ => 0)) := by
    refine ir_in (cf := fun _ => 0) (cnt := fun _ => 0) (inn := fun _ _ => 0) (out := fun _ _ => 0) (nm := fun _ _ => 0) (fl := fun _ _ => 0) ⟨?_, ?_, ?_, ?_, ?_, ?_⟩ ⟨?_, ?_, ?_⟩ ⟨?_, ?_, ?_⟩
    · omega
    · intro t; show 0 < 32768; omega
    · intro t; show 0 ≤ 6; omega
    · intro t _; rfl
    · intro t i hi; exact absurd hi (Nat.not_lt_zero i)
    · intro t i j _ hj; exact absurd hj (Nat.not_lt_zero j)
    · intro t _; rfl
    · intro t _; rfl
    · intro t i _ hi; exact absurd hi (Nat.not_lt_zero i)
    · intro t _; rfl
    · intro t _; rfl
    · intro t i _ hi; exact absurd hi (Nat.not_lt_zero i)
  exact h
theorem i_vc_addClass {k : Nat} {u : SX} {v : SY} (I : i_Rel k u v) (hk : k + 6 ≤ 3072) (v1 : Int32) : wpX_addClass (fun r u' => wpY_addClass (fun r' v' => r' = r ∧ i_Rel (k + 6) u' v') v v1) u v1 := by
  refine ir_el (P := fun u v => wpX_addClass (fun r u' => wpY_addClass (fun r' v' => r' = r ∧ i_Rel (k + 6) u' v') v v1) u v1) ?_ I
  intro c cf cnt inn out nm fl a1 a2 a3 a4 a5 a6 fr b1 b2 b3 hO hX hY
  exact ir_ac hO hX hY v1
theorem i_vc_addRow {k : Nat} {u : SX} {v : SY} (I : i_Rel k u v) (hk : k + 6 ≤ 3072) (v1 : Int32) (v2 : Int32) (v3 : Int32) (v4 : Int32) (v5 : Int32) : wpX_addRow (fun r u' => wpY_addRow (fun r' v' => r' = r ∧ i_Rel (k + 6) u' v') v v1 v2 v3 v4 v5) u v1 v2 v3 v4 v5 := by
  refine ir_el (P := fun u v => wpX_addRow (fun r u' => wpY_addRow (fun r' v' => r' = r ∧ i_Rel (k + 6) u' v') v v1 v2 v3 v4 v5) u v1 v2 v3 v4 v5) ?_ I
  intro c cf cnt inn out nm fl a1 a2 a3 a4 a5 a6 fr b1 b2 b3 hO hX hY
  obtain ⟨r, u', v', hR, pX, pY⟩ := ir_ar (k := k + 6) (fr := fr) hO hX hY v1 v2 v3 v4 v5
  exact pX _ (pY _ ⟨rfl, hR⟩)
theorem i_vc_modifiersOf {k : Nat} {u : SX} {v : SY} (I : i_Rel k u v) (hk : k + 6 ≤ 3072) (v1 : Int32) : wpX_modifiersOf (fun r => wpY_modifiersOf (fun r' => r' = r ∧ i_Rel (k + 6) u v) v v1) u v1 := by
  have I2 : i_Rel (k + 6) u v := i_up I
  refine ir_el (P := fun u v => i_Rel (k + 6) u v → wpX_modifiersOf (fun r => wpY_modifiersOf (fun r' => r' = r ∧ i_Rel (k + 6) u v) v v1) u v1) ?_ I I2
  intro c cf cnt inn out nm fl a1 a2 a3 a4 a5 a6 fr b1 b2 b3 hO hX hY J
  rcases ir_kc v1 hO.1 with ⟨t, h1, h2, rfl⟩ | h
  · obtain ⟨r, pX, pY⟩ := ir_mo (fr := fr) hO hX hY h1 h2
    exact pX _ (pY _ ⟨rfl, J⟩)
  · unfold wpX_modifiersOf
    refine ir_nX h ?_
    refine br_t rfl ?_
    unfold wpY_modifiersOf
    refine ir_nY h ?_
    exact br_t rfl ⟨rfl, J⟩
theorem i_vc_declaringOf {k : Nat} {u : SX} {v : SY} (I : i_Rel k u v) (hk : k + 6 ≤ 3072) (v1 : Int32) : wpX_declaringOf (fun r => wpY_declaringOf (fun r' => r' = r ∧ i_Rel (k + 6) u v) v v1) u v1 := by
  have I2 : i_Rel (k + 6) u v := i_up I
  refine ir_el (P := fun u v => i_Rel (k + 6) u v → wpX_declaringOf (fun r => wpY_declaringOf (fun r' => r' = r ∧ i_Rel (k + 6) u v) v v1) u v1) ?_ I I2
  intro c cf cnt inn out nm fl a1 a2 a3 a4 a5 a6 fr b1 b2 b3 hO hX hY J
  rcases ir_kc v1 hO.1 with ⟨t, h1, h2, rfl⟩ | h
  · obtain ⟨r, pX, pY⟩ := ir_dg (fr := fr) hO hX hY h1 h2
    exact pX _ (pY _ ⟨rfl, J⟩)
  · exact (ir_dgn (fr := fr) (b1 := b1) (b2 := b2) (b3 := b3) h).1 _ ((ir_dgn (a1 := a1) (a2 := a2) (a3 := a3) (a4 := a4) (a5 := a5) (a6 := a6) h).2 _ ⟨rfl, J⟩)
theorem i_vc_declaredOf {k : Nat} {u : SX} {v : SY} (I : i_Rel k u v) (hk : k + 6 ≤ 3072) (v1 : Int32) : wpX_declaredOf (fun r => wpY_declaredOf (fun r' => r' = r ∧ i_Rel (k + 6) u v) v v1) u v1 := by
  have I2 : i_Rel (k + 6) u v := i_up I
  refine ir_el (P := fun u v => i_Rel (k + 6) u v → wpX_declaredOf (fun r => wpY_declaredOf (fun r' => r' = r ∧ i_Rel (k + 6) u v) v v1) u v1) ?_ I I2
  intro c cf cnt inn out nm fl a1 a2 a3 a4 a5 a6 fr b1 b2 b3 hO hX hY J
  rcases ir_kc v1 hO.1 with ⟨t, h1, h2, rfl⟩ | h
  · refine ir_dcX hO hX h1 h2 (fun s hs => ?_)
    refine ir_dcY hO hY h1 h2 (fun s' hs' => ?_)
    exact ⟨ir_bt_ext (fun b hb => (hs' b hb).trans (hs b hb).symm), J⟩
  · unfold wpX_declaredOf
    refine ir_nX h ?_
    refine br_t rfl ?_
    unfold wpY_declaredOf
    refine ir_nY h ?_
    exact br_t rfl ⟨rfl, J⟩
theorem i_vc_simpleBinaryNameOf {k : Nat} {u : SX} {v : SY} (I : i_Rel k u v) (hk : k + 6 ≤ 3072) (v1 : Int32) : wpX_simpleBinaryNameOf (fun r => wpY_simpleBinaryNameOf (fun r' => r' = r ∧ i_Rel (k + 6) u v) v v1) u v1 := by
  have I2 : i_Rel (k + 6) u v := i_up I
  refine ir_el (P := fun u v => i_Rel (k + 6) u v → wpX_simpleBinaryNameOf (fun r => wpY_simpleBinaryNameOf (fun r' => r' = r ∧ i_Rel (k + 6) u v) v v1) u v1) ?_ I I2
  intro c cf cnt inn out nm fl a1 a2 a3 a4 a5 a6 fr b1 b2 b3 hO hX hY J
  rcases ir_kc v1 hO.1 with ⟨t, h1, h2, rfl⟩ | h
  · obtain ⟨r, pX, pY⟩ := ir_sb (fr := fr) hO hX hY h1 h2
    exact pX _ (pY _ ⟨rfl, J⟩)
  · unfold wpX_simpleBinaryNameOf
    refine ir_nX h ?_
    refine br_t rfl ?_
    unfold wpY_simpleBinaryNameOf
    refine ir_nY h ?_
    exact br_t rfl ⟨rfl, J⟩
end
