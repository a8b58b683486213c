section
/-! starting text: rows of kit/rows (PURE-ROWS, BITS) -/
theorem pk_us {f : Nat → Int32} {k : Nat} {x : Int32} : upd f k x k = x := if_pos rfl
theorem pk_un {f : Nat → Int32} {k j : Nat} {x : Int32} (h : j ≠ k) : upd f k x j = f j := if_neg h
theorem pk_sub {a b : Nat} (h : b ≤ a) : nI a - nI b = nI (a - b) := by
  obtain ⟨c, rfl⟩ : ∃ c, a = c + b := ⟨a - b, by omega⟩
  rw [← nI_add, Int32.add_sub_cancel, Nat.add_sub_cancel]
theorem pk_m1 (n : Nat) : nI (n + 1) + (-1) = nI n := by
  rw [← nI_1, Int32.add_assoc, show (1 : Int32) + (-1) = 0 from rfl, Int32.add_zero]
theorem pk_mul (a b : Nat) : nI a * nI b = nI (a * b) := (Int32.ofNat_mul a b).symm
theorem pk_sub_toInt {a b : Nat} (ha : a < 2 ^ 30) (hb : b < 2 ^ 30) : (nI a - nI b).toInt = (a : Int) - b := by
  rw [Int32.toInt_sub, nI_toInt (by omega), nI_toInt (by omega)]
  exact Int.bmod_eq_of_le (by omega) (by omega)
theorem pk_sneg {a b : Nat} (hb : b < 2 ^ 30) (h : a < b) : nI a - nI b < 0 := by
  rw [Int32.lt_iff_toInt_lt, pk_sub_toInt (by omega) hb, show (0 : Int32).toInt = 0 from by decide]
  omega
theorem pk_ix (x : Int32) {n : Nat} (hn : n < 2 ^ 31) : x < 0 ∨ nI n ≤ x ∨ ∃ j : Nat, j < n ∧ x = nI j := by
  by_cases h : x < 0
  · exact Or.inl h
  · obtain ⟨j, hj, rfl⟩ := nI_of h
    by_cases h2 : j < n
    · exact Or.inr (Or.inr ⟨j, h2, rfl⟩)
    · exact Or.inr (Or.inl (nI_le (by omega) hj))
theorem pk_le {x y : Int32} {A B : Prop} (a b : Nat) (f : a ≤ b → A) (g : b < a → B) (hx : x = nI a := by rfl) (hy : y = nI b := by rfl) (ha : a < 2 ^ 31 := by omega) (hb : b < 2 ^ 31 := by omega) : (x ≤ y → A) ∧ (¬ x ≤ y → B) := by
  subst hx hy
  rw [nI_leI ha hb]
  exact ⟨f, fun z => g (by omega)⟩
theorem pk_lt {x y : Int32} {A B : Prop} (a b : Nat) (f : a < b → A) (g : b ≤ a → B) (hx : x = nI a := by rfl) (hy : y = nI b := by rfl) (ha : a < 2 ^ 31 := by omega) (hb : b < 2 ^ 31 := by omega) : (x < y → A) ∧ (¬ x < y → B) := by
  subst hx hy
  rw [nI_ltI ha hb]
  exact ⟨f, fun z => g (by omega)⟩
theorem pk_eq {x y : Int32} {A B : Prop} (a b : Nat) (f : a = b → A) (g : a ≠ b → B) (hx : x = nI a := by rfl) (hy : y = nI b := by rfl) (ha : a < 2 ^ 31 := by omega) (hb : b < 2 ^ 31 := by omega) : (x = y → A) ∧ (¬ x = y → B) := by
  subst hx hy
  rw [nI_eq ha hb]
  exact ⟨f, g⟩
theorem pk_in {x : Int32} (n N : Nat) (h : n < N) (hx : x = nI n := by rfl) (hN : N < 2 ^ 31 := by omega) : vp_in x N := by
  subst hx
  exact vp_in_nI h hN
theorem pk_cl {x : Int32} (n : Nat) (hx : x = nI n := by rfl) (h : n < 2 ^ 31 := by omega) : x.toNatClampNeg = n := by
  subst hx
  exact nI_clamp h
theorem pk_tn {n : Nat} (h : n < 2 ^ 32) : (nI n).toBitVec.toNat = n := Nat.mod_eq_of_lt h
theorem pk_and (x : Int32) {m : Int32} (k : Nat) (hm : m.toBitVec.toNat = 2 ^ k - 1) : x &&& m = nI (x.toBitVec.toNat % 2 ^ k) := by
  apply Int32.toBitVec_inj.mp
  apply BitVec.eq_of_toNat_eq
  rw [Int32.toBitVec_and, BitVec.toNat_and, hm, Nat.and_two_pow_sub_one_eq_mod]
  show _ = (BitVec.ofNat 32 _).toNat
  rw [BitVec.toNat_ofNat]
  exact (Nat.mod_eq_of_lt (Nat.lt_of_le_of_lt (Nat.mod_le _ _) x.toBitVec.isLt)).symm
theorem pk_andN {n : Nat} (h : n < 2 ^ 32) {m : Int32} (k : Nat) (hm : m.toBitVec.toNat = 2 ^ k - 1) : nI n &&& m = nI (n % 2 ^ k) := by
  rw [pk_and _ k hm, pk_tn h]
theorem pk_andE (x : Int32) {m : Int32} (k : Nat) (hm : m.toBitVec.toNat = 2 ^ k - 1) : ∃ j : Nat, j < 2 ^ k ∧ x &&& m = nI j := ⟨_, Nat.mod_lt _ (Nat.two_pow_pos k), pk_and x k hm⟩
theorem pk_andIn (x : Int32) {m : Int32} (k : Nat) (hm : m.toBitVec.toNat = 2 ^ k - 1) (hk : k ≤ 30) : vp_in (x &&& m) (2 ^ k) := by
  obtain ⟨j, hj, e⟩ := pk_andE x k hm
  rw [e]
  exact vp_in_nI hj (Nat.lt_of_le_of_lt (Nat.pow_le_pow_right (by decide) hk) (by decide))
theorem pk_shl (a s : Int32) (k : Nat) (hs : (s.toBitVec.smod 32).toNat = k) : (a <<< s).toBitVec.toNat = a.toBitVec.toNat * 2 ^ k % 2 ^ 32 := by
  show (a.toBitVec <<< (s.toBitVec.smod 32).toNat).toNat = _
  rw [hs, BitVec.toNat_shiftLeft, Nat.shiftLeft_eq]
theorem pk_shlN {n : Nat} (s : Int32) (k : Nat) (hs : (s.toBitVec.smod 32).toNat = k) (h : n * 2 ^ k < 2 ^ 32) : nI n <<< s = nI (n * 2 ^ k) := by
  apply Int32.toBitVec_inj.mp
  apply BitVec.eq_of_toNat_eq
  have hn : n < 2 ^ 32 := Nat.lt_of_le_of_lt (Nat.le_mul_of_pos_right n (Nat.two_pow_pos k)) h
  rw [pk_shl _ _ k hs, pk_tn hn, pk_tn h, Nat.mod_eq_of_lt h]
theorem pk_shr (a s : Int32) (k : Nat) (hs : (s.toBitVec.smod 32).toNat = k) : (a >>> s).toInt = a.toInt >>> k := by
  show (a.toBitVec.sshiftRight (s.toBitVec.smod 32).toNat).toInt = _
  rw [hs, BitVec.toInt_sshiftRight]
  rfl
theorem pk_shrN {n : Nat} (h : n < 2 ^ 31) (s : Int32) (k : Nat) (hs : (s.toBitVec.smod 32).toNat = k) : nI n >>> s = nI (n / 2 ^ k) := by
  apply Int32.toInt_inj.mp
  have h2 : n / 2 ^ k ≤ n := Nat.div_le_self _ _
  rw [pk_shr _ _ k hs, nI_toInt h, nI_toInt (by omega), Int.shiftRight_eq_div_pow]
  rfl
theorem pk_nb (z : Int32) : narrow .byte (.int z.toInt8.toInt32) = .int z.toInt8.toInt32 := congrArg Value.int (by simp)
theorem pk_vb (z : Int32) : vp_nar .byte z.toInt8.toInt32 = z.toInt8.toInt32 := by rw [vp_nar_byte]; simp
theorem pk_loop {σ : Type} (W : Nat → Nat → σ → Prop) (I : Nat → σ → Prop) (e i0 : Nat) (s : σ) (hi : i0 ≤ e) (h0 : I i0 s) (hx : ∀ n s, I e s → W (n + 1) e s)
    (hs : ∀ n i s, i < e → I i s → (∀ s', I (i + 1) s' → W n (i + 1) s') → W (n + 1) i s) : ∃ n, W n i0 s :=
  ⟨e + 1, loop_i W I e hx hs (e + 1) i0 s hi (by omega) h0⟩
theorem pk_loopD {σ : Type} (W : Nat → Nat → σ → Prop) (I : Nat → σ → Prop) (hx : ∀ n s, I 0 s → W (n + 1) 0 s)
    (hs : ∀ n i s, I (i + 1) s → (∀ s', I i s' → W n i s') → W (n + 1) (i + 1) s) : ∀ (e : Nat) (s : σ), I e s → W (e + 1) e s := by
  intro e
  induction e with
  | zero => exact fun s h => hx 0 s h
  | succ e ih => exact fun s h => hs (e + 1) e s h (fun s' h' => ih s' h')
theorem pk_least (P : Nat → Prop) (h : ∃ k, P k) : ∃ k, P k ∧ ∀ j, j < k → ¬ P j := by
  obtain ⟨k, hk⟩ := h
  induction k using Nat.strongRecOn with
  | ind k ih =>
    by_cases e : ∃ j, j < k ∧ P j
    · obtain ⟨j, hj, pj⟩ := e
      exact ih j hj pj
    · exact ⟨k, hk, fun j hj pj => e ⟨j, hj, pj⟩⟩
theorem ek_if {c d A B : Prop} (e : c ↔ d) (f : d → A) (g : ¬ d → B) : (c → A) ∧ (¬ c → B) :=
  ⟨fun z => f (e.mp z), fun z => g (fun y => z (e.mpr y))⟩
theorem ek_v {α : Sort _} {P : α → Prop} {a b : α} (e : a = b) (h : P b) : P a := e ▸ h
theorem co_2 {P : Nat → Prop} (h0 : P 0) (h1 : P 1) {i : Nat} (hi : i < 2) : P i :=
  match i, hi with
  | 0, _ => h0
  | 1, _ => h1
theorem co_3 {P : Nat → Prop} (h0 : P 0) (h1 : P 1) (h2 : P 2) {i : Nat} (hi : i < 3) : P i :=
  match i, hi with
  | 0, _ => h0
  | 1, _ => h1
  | 2, _ => h2
theorem co_4 {P : Nat → Prop} (h0 : P 0) (h1 : P 1) (h2 : P 2) (h3 : P 3) {i : Nat} (hi : i < 4) : P i :=
  match i, hi with
  | 0, _ => h0
  | 1, _ => h1
  | 2, _ => h2
  | 3, _ => h3
def bt (x : Int32) (i : Nat) : Bool := x.toBitVec.getLsbD i
theorem b_ext {x y : Int32} (h : ∀ i, i < 32 → bt x i = bt y i) : x = y := Int32.toBitVec_inj.mp (BitVec.eq_of_getLsbD_eq (fun i hi => h i hi))
theorem b_or (x y : Int32) (i : Nat) : bt (x ||| y) i = (bt x i || bt y i) := by unfold bt; rw [Int32.toBitVec_or, BitVec.getLsbD_or]
theorem b_and (x y : Int32) (i : Nat) : bt (x &&& y) i = (bt x i && bt y i) := by unfold bt; rw [Int32.toBitVec_and, BitVec.getLsbD_and]
theorem b_xor (x y : Int32) (i : Nat) : bt (x ^^^ y) i = (bt x i ^^ bt y i) := by unfold bt; rw [Int32.toBitVec_xor, BitVec.getLsbD_xor]
theorem b_big {x : Int32} {i : Nat} (h : 32 ≤ i) : bt x i = false := BitVec.getLsbD_of_ge _ _ h
theorem b_m1 : ∀ i, i < 32 → bt (-1) i = true := by decide +kernel
theorem b_0 (i : Nat) : bt 0 i = false := BitVec.getLsbD_zero
theorem s_l : ∀ n, n < 32 → ((nI n &&& 31).toBitVec.smod 32).toNat = n := by decide +kernel
theorem b_shl (n : Nat) (hn : n < 32) (x : Int32) {i : Nat} (hi : i < 32) : bt (x <<< (nI n &&& 31)) i = (decide (n ≤ i) && bt x (i - n)) := by
  unfold bt
  rw [Int32.toBitVec_shiftLeft]
  show (x.toBitVec <<< ((nI n &&& 31).toBitVec.smod 32).toNat).getLsbD i = _
  rw [s_l n hn, BitVec.getLsbD_shiftLeft]
  rcases Nat.lt_or_ge i n with h | h
  · simp [h, Nat.not_le.mpr h]
  · simp [hi, h, Nat.not_lt.mpr h]
theorem b_sshr (n : Nat) (hn : n < 32) (x : Int32) {i : Nat} (hi : i < 32) : bt (x >>> (nI n &&& 31)) i = if n + i < 32 then bt x (n + i) else bt x 31 := by
  unfold bt
  rw [Int32.toBitVec_shiftRight]
  show (x.toBitVec.sshiftRight ((nI n &&& 31).toBitVec.smod 32).toNat).getLsbD i = _
  rw [s_l n hn, BitVec.getLsbD_sshiftRight, BitVec.msb_eq_getLsbD_last]
  simp [hi]
theorem nx_and (a b : Nat) : nI a &&& nI b = nI (a &&& b) := by
  apply Int32.toBitVec_inj.1
  show BitVec.ofNat 32 a &&& BitVec.ofNat 32 b = BitVec.ofNat 32 (a &&& b)
  apply BitVec.eq_of_getLsbD_eq
  intro i hi
  simp [hi]
theorem nx_xor (a b : Nat) : nI a ^^^ nI b = nI (a ^^^ b) := by
  apply Int32.toBitVec_inj.1
  show BitVec.ofNat 32 a ^^^ BitVec.ofNat 32 b = BitVec.ofNat 32 (a ^^^ b)
  apply BitVec.eq_of_getLsbD_eq
  intro i hi
  simp [hi]
theorem wb_of32 (x : Int32) : ∃ n, n < 2 ^ 32 ∧ x = nI n := ⟨x.toBitVec.toNat, x.toBitVec.isLt, Int32.toBitVec_inj.mp (by show _ = BitVec.ofNat 32 _; simp)⟩
end
section
/-! netlists, edges, their meaning -/
abbrev bz_T : Type := Nat × (Nat → Int32) × (Nat → Int32) × (Nat → Int32) × (Nat → Int32)
def bz_I (b : Bool) : Int32 := if b = true then 1 else 0
theorem bz_I_inj {a b : Bool} (h : bz_I a = bz_I b) : a = b := by
  revert h; cases a <;> cases b <;> decide
theorem bz_I_nI (b : Bool) : bz_I b = nI b.toNat := by cases b <;> rfl
theorem bz_I_tb (n j : Nat) : bz_I (n.testBit j) = nI (n / 2 ^ j % 2) := by
  rw [Nat.testBit_eq_decide_div_mod_eq]
  rcases Nat.mod_two_eq_zero_or_one (n / 2 ^ j) with h | h <;> rw [h] <;> rfl
/-- a gate number that is in use -/
def bz_vg (w G g : Nat) : Prop := g ≤ 3 * w ∨ (13 ≤ g ∧ g < G)
def bz_eb (s : Nat → Bool) (e : Nat) : Bool := (s (e / 2)) ^^ decide (e % 2 = 1)
/-- s gives every gate of N its value under the assignment x -/
def bz_con (w : Nat) (N : bz_T) (x : Nat) (s : Nat → Bool) : Prop :=
  s 0 = false ∧ (∀ k, k < 3 * w → s (1 + k) = x.testBit (3 * w - 1 - k)) ∧
  ∀ g, 13 ≤ g → g < N.1 → s g = (bz_eb s (N.2.1 g).toNatClampNeg && bz_eb s (N.2.2.1 g).toNatClampNeg)
/-- v is an edge of N that means f -/
def bz_ed (w : Nat) (N : bz_T) (v : Int32) (f : Nat → Bool) : Prop :=
  ∃ e, v = nI e ∧ bz_vg w N.1 (e / 2) ∧ ∀ x s, bz_con w N x s → bz_eb s e = f x
def bz_key (l r : Nat → Int32) (g : Nat) : Nat := ((l g * 31 + r g * 17) &&& 255).toNatClampNeg
def bz_NI (w : Nat) (N : bz_T) : Prop :=
  (1 ≤ w ∧ w ≤ 4) ∧ (13 ≤ N.1 ∧ N.1 ≤ 6000) ∧
  (∀ g, 13 ≤ g → g < N.1 → (∃ x, N.2.1 g = nI x ∧ bz_vg w g (x / 2)) ∧ (∃ y, N.2.2.1 g = nI y ∧ bz_vg w g (y / 2))) ∧
  (∀ g, 13 ≤ g → g < N.1 → N.2.2.2.1 g = 0 ∨ ∃ c, 13 ≤ c ∧ c < g ∧ N.2.2.2.1 g = nI c ∧ bz_key N.2.1 N.2.2.1 c = bz_key N.2.1 N.2.2.1 g) ∧
  (∀ k, k < 256 → N.2.2.2.2 k = 0 ∨ ∃ c, 13 ≤ c ∧ c < N.1 ∧ N.2.2.2.2 k = nI c ∧ bz_key N.2.1 N.2.2.1 c = k)
/-- N' extends N -/
def bz_X (w : Nat) (N N' : bz_T) : Prop :=
  bz_NI w N' ∧ N.1 ≤ N'.1 ∧ ∀ g, 13 ≤ g → g < N.1 → N'.2.1 g = N.2.1 g ∧ N'.2.2.1 g = N.2.2.1 g
theorem bz_x1d (e : Nat) : (e ^^^ 1) / 2 = e / 2 := by rw [Nat.xor_div_two]; simp
theorem bz_x1m (e : Nat) : ((e ^^^ 1) % 2 = 1) ↔ ¬ (e % 2 = 1) := by rw [Nat.xor_mod_two_eq_one]; simp
theorem bz_x1e (s : Nat → Bool) (e : Nat) : bz_eb s (e ^^^ 1) = !bz_eb s e := by
  unfold bz_eb
  rw [bz_x1d]
  by_cases h : e % 2 = 1
  · rw [decide_eq_true h, decide_eq_false (by rw [bz_x1m]; exact fun q => q h)]; cases s (e / 2) <;> rfl
  · rw [decide_eq_false h, decide_eq_true (by rw [bz_x1m]; exact h)]; cases s (e / 2) <;> rfl
theorem bz_eb_c {s s' : Nat → Bool} {e : Nat} (h : s (e / 2) = s' (e / 2)) : bz_eb s e = bz_eb s' e := by
  unfold bz_eb; rw [h]
theorem bz_vg_mono {w G G' g : Nat} (h : bz_vg w G g) (hG : G ≤ G') : bz_vg w G' g := by
  unfold bz_vg at *; omega
section
variable {w : Nat} {N N' N'' : bz_T} {v : Int32} {f g : Nat → Bool} {x : Nat} {s : Nat → Bool}
theorem bz_vg_lt {e : Nat} (hN : bz_NI w N) (h : bz_vg w N.1 (e / 2)) : e < 12002 := by
  have h1 := hN.1; have h2 := hN.2.1
  unfold bz_vg at h; omega
theorem bz_ed_not (h : bz_ed w N v f) : bz_ed w N (v ^^^ 1) (fun x => !f x) := by
  obtain ⟨e, rfl, hv, hs⟩ := h
  refine ⟨e ^^^ 1, nx_xor e 1, ?_, fun x s c => ?_⟩
  · rw [bz_x1d]; exact hv
  · rw [bz_x1e, hs x s c]
theorem bz_ed_0 : bz_ed w N 0 (fun _ => false) := by
  refine ⟨0, rfl, Or.inl (Nat.zero_le _), fun x s c => ?_⟩
  show (s 0 ^^ decide (0 % 2 = 1)) = false
  rw [c.1]; rfl
theorem bz_ed_1 : bz_ed w N 1 (fun _ => true) := by
  refine ⟨1, rfl, Or.inl (Nat.zero_le _), fun x s c => ?_⟩
  show (s 0 ^^ decide (1 % 2 = 1)) = true
  rw [c.1]; rfl
theorem bz_ed_I (b : Bool) : bz_ed w N (bz_I b) (fun _ => b) := by
  cases b
  · exact bz_ed_0
  · exact bz_ed_1
theorem bz_ed_eq (h : bz_ed w N v f) (e : ∀ x, f x = g x) : bz_ed w N v g := by
  have q : f = g := funext e
  rw [← q]; exact h
theorem bz_con_X (h : bz_X w N N') (c : bz_con w N' x s) : bz_con w N x s := by
  refine ⟨c.1, c.2.1, fun g h1 h2 => ?_⟩
  have e := c.2.2 g h1 (Nat.lt_of_lt_of_le h2 h.2.1)
  rw [(h.2.2 g h1 h2).1, (h.2.2 g h1 h2).2] at e
  exact e
theorem bz_ed_X (h : bz_X w N N') (q : bz_ed w N v f) : bz_ed w N' v f := by
  obtain ⟨e, rfl, hv, hs⟩ := q
  exact ⟨e, rfl, bz_vg_mono hv h.2.1, fun x s c => hs x s (bz_con_X h c)⟩
theorem bz_X_rf (h : bz_NI w N) : bz_X w N N := ⟨h, Nat.le_refl _, fun _ _ _ => ⟨rfl, rfl⟩⟩
theorem bz_X_tr (a : bz_X w N N') (b : bz_X w N' N'') : bz_X w N N'' := by
  refine ⟨b.1, Nat.le_trans a.2.1 b.2.1, fun g h1 h2 => ?_⟩
  have p := a.2.2 g h1 h2
  have q := b.2.2 g h1 (Nat.lt_of_lt_of_le h2 a.2.1)
  exact ⟨q.1.trans p.1, q.2.trans p.2⟩
theorem bz_ex (hN : bz_NI w N) (x : Nat) : ∃ s, bz_con w N x s := by
  have key : ∀ m, ∃ s : Nat → Bool, s 0 = false ∧ (∀ k, k < 3 * w → s (1 + k) = x.testBit (3 * w - 1 - k)) ∧
      ∀ g, 13 ≤ g → g < 13 + m → g < N.1 → s g = (bz_eb s (N.2.1 g).toNatClampNeg && bz_eb s (N.2.2.1 g).toNatClampNeg) := by
    intro m
    induction m with
    | zero =>
      refine ⟨fun g => if g = 0 then false else x.testBit (3 * w - 1 - (g - 1)), if_pos rfl, fun k hk => ?_, fun g h1 h2 => by omega⟩
      show (if 1 + k = 0 then false else _) = _
      rw [if_neg (by omega), show 1 + k - 1 = k by omega]
    | succ m ih =>
      obtain ⟨s, s0, s1, s2⟩ := ih
      by_cases hm : 13 + m < N.1
      · have hw := hN.1
        refine ⟨fun j => if j = 13 + m then (bz_eb s (N.2.1 j).toNatClampNeg && bz_eb s (N.2.2.1 j).toNatClampNeg) else s j, ?_, fun k hk => ?_, fun g h1 h2 h3 => ?_⟩
        · show (if 0 = 13 + m then _ else _) = _
          rw [if_neg (by omega)]; exact s0
        · show (if 1 + k = 13 + m then _ else _) = _
          rw [if_neg (by omega)]; exact s1 k hk
        · obtain ⟨⟨a, ea, va⟩, ⟨b, eb, vb⟩⟩ := hN.2.2.1 g h1 h3
          have hb := hN.2.1.2
          have ha' : (N.2.1 g).toNatClampNeg = a := by rw [ea]; exact nI_clamp (by unfold bz_vg at va; omega)
          have hb' : (N.2.2.1 g).toNatClampNeg = b := by rw [eb]; exact nI_clamp (by unfold bz_vg at vb; omega)
          have na : ¬ a / 2 = 13 + m := by unfold bz_vg at va; omega
          have nb : ¬ b / 2 = 13 + m := by unfold bz_vg at vb; omega
          rw [ha', hb']
          rw [bz_eb_c (s' := s) (e := a) (if_neg na), bz_eb_c (s' := s) (e := b) (if_neg nb)]
          by_cases hg : g = 13 + m
          · show (if g = 13 + m then _ else _) = _
            rw [if_pos hg, ha', hb']
          · show (if g = 13 + m then _ else _) = _
            rw [if_neg hg, s2 g h1 (by omega) h3, ha', hb']
      · exact ⟨s, s0, s1, fun g h1 h2 h3 => s2 g h1 (by omega) h3⟩
  obtain ⟨s, s0, s1, s2⟩ := key N.1
  exact ⟨s, s0, s1, fun g h1 h2 => s2 g h1 (by omega) h2⟩
theorem bz_ed_cl (hN : bz_NI w N) (h : bz_ed w N v f) (c : bz_con w N x s) : bz_eb s v.toNatClampNeg = f x := by
  obtain ⟨e, rfl, hv, hs⟩ := h
  rw [nI_clamp (by have := bz_vg_lt hN hv; omega)]
  exact hs x s c
theorem bz_uq (hN : bz_NI w N) (h : bz_ed w N v f) (k : bz_ed w N v g) (x : Nat) : f x = g x := by
  obtain ⟨s, c⟩ := bz_ex hN x
  rw [← bz_ed_cl hN h c, ← bz_ed_cl hN k c]
end
end
section
/-! the gate -/
theorem bz_2g (n : Nat) : 2 * nI (n + 1) - 2 = nI (2 * n) := by
  show nI 2 * nI (n + 1) - nI 2 = _
  rw [pk_mul, pk_sub (by omega)]
  exact congrArg nI (by omega)
theorem bz_NI_add {w G k : Nat} {l r c b : Nat → Int32} {x y : Int32} {f g : Nat → Bool} (hN : bz_NI w (G, l, r, c, b)) (hG : G < 6000)
    (hx : bz_ed w (G, l, r, c, b) x f) (hy : bz_ed w (G, l, r, c, b) y g) (hk : (x * 31 + y * 17) &&& 255 = nI k) (hk2 : k < 256) :
    bz_X w (G, l, r, c, b) (G + 1, upd l G x, upd r G y, upd c G (b k), upd b k (nI G)) ∧
    bz_ed w (G + 1, upd l G x, upd r G y, upd c G (b k), upd b k (nI G)) (nI (2 * G)) (fun x => f x && g x) := by
  have hw := hN.1
  have hg := hN.2.1
  have wf := hN.2.2.1
  have ch := hN.2.2.2.1
  have bk := hN.2.2.2.2
  dsimp only at hg wf ch bk
  have klt : ∀ j, j ≠ G → bz_key (upd l G x) (upd r G y) j = bz_key l r j := by
    intro j hj; unfold bz_key; rw [pk_un hj, pk_un hj]
  have kG : bz_key (upd l G x) (upd r G y) G = k := by
    unfold bz_key; rw [pk_us, pk_us, hk]; exact nI_clamp (by omega)
  have hX : bz_X w (G, l, r, c, b) (G + 1, upd l G x, upd r G y, upd c G (b k), upd b k (nI G)) := by
    refine ⟨⟨hw, ⟨by dsimp only; omega, by dsimp only; omega⟩, ?_, ?_, ?_⟩, Nat.le_succ _, ?_⟩
    · dsimp only
      intro j h1 h2
      by_cases hj : j = G
      · subst hj
        obtain ⟨ex, e1, v1, _⟩ := hx
        obtain ⟨ey, e2, v2, _⟩ := hy
        exact ⟨⟨ex, by rw [pk_us]; exact e1, v1⟩, ⟨ey, by rw [pk_us]; exact e2, v2⟩⟩
      · rw [pk_un hj, pk_un hj]
        exact wf j h1 (by omega)
    · dsimp only
      intro j h1 h2
      by_cases hj : j = G
      · subst hj
        rw [pk_us, kG]
        rcases bk k hk2 with e | ⟨q, q1, q2, q3, q4⟩
        · exact Or.inl e
        · exact Or.inr ⟨q, q1, q2, q3, by rw [klt q (by omega)]; exact q4⟩
      · rw [pk_un hj, klt j hj]
        rcases ch j h1 (by omega) with e | ⟨q, q1, q2, q3, q4⟩
        · exact Or.inl e
        · exact Or.inr ⟨q, q1, q2, q3, by rw [klt q (by omega)]; exact q4⟩
    · dsimp only
      intro j hj
      by_cases e : j = k
      · subst e
        exact Or.inr ⟨G, hg.1, by omega, pk_us, kG⟩
      · rw [pk_un e]
        rcases bk j hj with e | ⟨q, q1, q2, q3, q4⟩
        · exact Or.inl e
        · exact Or.inr ⟨q, q1, by omega, q3, by rw [klt q (by omega)]; exact q4⟩
    · dsimp only
      intro j _ h2
      exact ⟨pk_un (by omega), pk_un (by omega)⟩
  refine ⟨hX, 2 * G, rfl, Or.inr ⟨by omega, by dsimp only; omega⟩, fun x0 s c0 => ?_⟩
  have e := c0.2.2 G hg.1 (Nat.lt_succ_self G)
  dsimp only at e
  rw [pk_us, pk_us, bz_ed_cl hN hx (bz_con_X hX c0), bz_ed_cl hN hy (bz_con_X hX c0)] at e
  show _ = (f x0 && g x0)
  rw [← e]
  unfold bz_eb
  rw [show 2 * G / 2 = G by omega, show 2 * G % 2 = 0 by omega]
  cases s G <;> rfl
section
variable {post : Int32 → SX → Prop} {w tc ec rc : Nat} {N : bz_T} {st tb te rq sm pa ip : Nat → Int32} {f g : Nat → Bool}
theorem bz_g79 {x3 x4 x5 : Int32} (hN : bz_NI w N) (A : wX_gate_135 post x3 x4 x5 (nI w) (nI (3 * w)) (nI N.1) (nI tc) (nI ec) (nI rc) N.2.1 N.2.2.1 N.2.2.2.1 N.2.2.2.2 st tb te rq sm pa ip)
    (B : ∀ g, 13 ≤ g → g < N.1 → N.2.1 g = x3 → N.2.2.1 g = x4 → post (2 * nI g) (nI w, nI (3 * w), nI N.1, nI tc, nI ec, nI rc, N.2.1, N.2.2.1, N.2.2.2.1, N.2.2.2.2, st, tb, te, rq, sm, pa, ip)) :
    ∀ n g x7, g < n → (g = 0 ∨ (13 ≤ g ∧ g < N.1)) → wX_gate_79 post x3 x4 x5 (nI w) (nI (3 * w)) (nI N.1) (nI tc) (nI ec) (nI rc) N.2.1 N.2.2.1 N.2.2.2.1 N.2.2.2.2 st tb te rq sm pa ip n (nI g) x7 := by
  intro n
  induction n with
  | zero => intro g x7 h; omega
  | succ n ih =>
    intro g x7 hg hv
    refine br_c (fun _ => A) (fun _ => ?_)
    rcases hv with rfl | ⟨h1, h2⟩
    · exact br_t rfl A
    · have hb := hN.2.1.2
      have hi : vp_in (nI g) 6000 := vp_in_nI (by omega) (by omega)
      have hcl : (nI g).toNatClampNeg = g := nI_clamp (by omega)
      have hst : ∀ y, wX_gate_79 post x3 x4 x5 (nI w) (nI (3 * w)) (nI N.1) (nI tc) (nI ec) (nI rc) N.2.1 N.2.2.1 N.2.2.2.1 N.2.2.2.2 st tb te rq sm pa ip n (N.2.2.2.1 (nI g).toNatClampNeg) y := by
        intro y; rw [hcl]
        rcases hN.2.2.2.1 g h1 h2 with e | ⟨c, c1, c2, e, _⟩
        · rw [e]; exact ih 0 y (by omega) (Or.inl rfl)
        · rw [e]; exact ih c y (by omega) (Or.inr ⟨c1, by omega⟩)
      refine br_f (nI_ne0 (by omega) (by omega)) ⟨hi, br_c (fun el => ⟨hi, br_c (fun er => ?_) (fun _ => ⟨hi, nm_e (nm_e (hst _))⟩)⟩) (fun _ => ⟨hi, nm_e (nm_e (hst _))⟩)⟩
      rw [hcl] at el er; exact B g h1 h2 el er
theorem bz_g135 {x y : Int32} {k : Nat} (hN : bz_NI w N) (hG : N.1 < 6000) (hx : bz_ed w N x f) (hy : bz_ed w N y g)
    (hk : (x * 31 + y * 17) &&& 255 = nI k) (hk2 : k < 256)
    (K : ∀ N' v, bz_X w N N' → N'.1 ≤ N.1 + 1 → bz_ed w N' v (fun x => f x && g x) → post v (nI w, nI (3 * w), nI N'.1, nI tc, nI ec, nI rc, N'.2.1, N'.2.2.1, N'.2.2.2.1, N'.2.2.2.2, st, tb, te, rq, sm, pa, ip)) :
    wX_gate_135 post x y (nI k) (nI w) (nI (3 * w)) (nI N.1) (nI tc) (nI ec) (nI rc) N.2.1 N.2.2.1 N.2.2.2.1 N.2.2.2.2 st tb te rq sm pa ip := by
  obtain ⟨G, l, r, c, b⟩ := N
  dsimp only at hG K ⊢
  have hi : vp_in (nI G) 6000 := vp_in_nI hG (by omega)
  have hcl : (nI G).toNatClampNeg = G := nI_clamp (by omega)
  have hik : vp_in (nI k) 256 := vp_in_nI hk2 (by omega)
  have hkl : (nI k).toNatClampNeg = k := nI_clamp (by omega)
  obtain ⟨h1, h2⟩ := bz_NI_add hN hG hx hy hk hk2
  have h3 := K _ _ h1 (Nat.le_refl _) h2
  refine br_f (fun e => ?_) ⟨hi, nm_e ⟨hi, nm_e ⟨hik, hi, nm_e ⟨hik, nm_e (nm_r (nI_1 G) ?_)⟩⟩⟩⟩
  · have := (nI_eq (b := 6000) (by omega) (by omega)).mp e
    omega
  · rw [hcl, hkl, bz_2g]
    exact h3
theorem bz_g21 {a b : Int32} (hN : bz_NI w N) (hG : N.1 < 6000) (ha : bz_ed w N a f) (hb : bz_ed w N b g)
    (K : ∀ N' v, bz_X w N N' → N'.1 ≤ N.1 + 1 → bz_ed w N' v (fun x => f x && g x) → post v (nI w, nI (3 * w), nI N'.1, nI tc, nI ec, nI rc, N'.2.1, N'.2.2.1, N'.2.2.2.1, N'.2.2.2.2, st, tb, te, rq, sm, pa, ip)) :
    wX_gate_21 post a b (nI w) (nI (3 * w)) (nI N.1) (nI tc) (nI ec) (nI rc) N.2.1 N.2.2.1 N.2.2.2.1 N.2.2.2.2 st tb te rq sm pa ip := by
  have K0 : ∀ v, bz_ed w N v (fun x => f x && g x) → post v (nI w, nI (3 * w), nI N.1, nI tc, nI ec, nI rc, N.2.1, N.2.2.1, N.2.2.2.1, N.2.2.2.2, st, tb, te, rq, sm, pa, ip) := fun v h => K N v (bz_X_rf hN) (Nat.le_succ _) h
  refine br_c (fun h => K0 _ ?_) (fun _ => br_c (fun h => K0 _ ?_) (fun _ => br_c (fun h => K0 _ ?_) (fun _ => br_c (fun h => K0 _ ?_) (fun _ => ?_))))
  · subst h
    exact bz_ed_eq bz_ed_0 (fun x => by rw [bz_uq hN ha bz_ed_0 x]; rfl)
  · subst h
    exact bz_ed_eq bz_ed_0 (fun x => by rw [bz_uq hN ha (bz_ed_not hb) x]; cases g x <;> rfl)
  · subst h
    exact bz_ed_eq hb (fun x => by rw [bz_uq hN ha bz_ed_1 x]; cases g x <;> rfl)
  · subst h
    exact bz_ed_eq hb (fun x => by rw [bz_uq hN ha hb x]; cases g x <;> rfl)
  · obtain ⟨k, hk, ek⟩ := pk_andE (a * 31 + b * 17) (m := 255) 8 (by decide)
    have hk2 : k < 256 := hk
    have hb2 := hN.2.1
    refine nm_r ek ⟨vp_in_nI hk2 (by omega), nm_e ?_⟩
    rw [nI_clamp (by omega)]
    have hA : wX_gate_135 post a b (nI k) (nI w) (nI (3 * w)) (nI N.1) (nI tc) (nI ec) (nI rc) N.2.1 N.2.2.1 N.2.2.2.1 N.2.2.2.2 st tb te rq sm pa ip := bz_g135 hN hG ha hb ek hk2 K
    have hB : ∀ j, 13 ≤ j → j < N.1 → N.2.1 j = a → N.2.2.1 j = b → post (2 * nI j) (nI w, nI (3 * w), nI N.1, nI tc, nI ec, nI rc, N.2.1, N.2.2.1, N.2.2.2.1, N.2.2.2.2, st, tb, te, rq, sm, pa, ip) := by
      intro j h1 h2 e1 e2
      refine K0 _ ⟨2 * j, pk_mul 2 j, Or.inr (by omega), fun x s c => ?_⟩
      have e := c.2.2 j h1 h2
      rw [e1, e2, bz_ed_cl hN ha c, bz_ed_cl hN hb c] at e
      show _ = (f x && g x)
      rw [← e]
      unfold bz_eb
      rw [show 2 * j / 2 = j by omega, show 2 * j % 2 = 0 by omega]
      cases s j <;> rfl
    rcases hN.2.2.2.2 k hk2 with e | ⟨c, c1, c2, e, _⟩
    · rw [e]
      exact ⟨1, bz_g79 hN hA hB 1 0 0 (by omega) (Or.inl rfl)⟩
    · rw [e]
      exact ⟨c + 1, bz_g79 hN hA hB (c + 1) c 0 (by omega) (Or.inr ⟨c1, c2⟩)⟩
theorem bz_gate {a b : Int32} (hN : bz_NI w N) (hG : N.1 < 6000) (ha : bz_ed w N a f) (hb : bz_ed w N b g)
    (K : ∀ N' v, bz_X w N N' → N'.1 ≤ N.1 + 1 → bz_ed w N' v (fun x => f x && g x) → post v (nI w, nI (3 * w), nI N'.1, nI tc, nI ec, nI rc, N'.2.1, N'.2.2.1, N'.2.2.2.1, N'.2.2.2.2, st, tb, te, rq, sm, pa, ip)) :
    wpX_gate post (nI w, nI (3 * w), nI N.1, nI tc, nI ec, nI rc, N.2.1, N.2.2.1, N.2.2.2.1, N.2.2.2.2, st, tb, te, rq, sm, pa, ip) a b :=
  br_c (fun h => br_t h (bz_g21 hN hG hb ha (fun N' v h1 h2 h3 => K N' v h1 h2 (bz_ed_eq h3 (fun x => Bool.and_comm _ _)))))
    (fun h => br_f h (bz_g21 hN hG ha hb K))
end
end
section
/-! binary numbers -/
def bz_bv (f : Nat → Bool) : Nat → Nat
  | 0 => 0
  | i + 1 => 2 ^ i * (f i).toNat + bz_bv f i
theorem bz_bv_lt (f : Nat → Bool) (i : Nat) : bz_bv f i < 2 ^ i := by
  induction i with
  | zero => exact Nat.one_pos
  | succ i ih =>
    show 2 ^ i * (f i).toNat + bz_bv f i < 2 ^ (i + 1)
    rw [Nat.pow_succ]
    have h : 2 ^ i * (f i).toNat ≤ 2 ^ i := by cases f i <;> simp
    omega
theorem bz_bv_tb (f : Nat → Bool) {i j : Nat} (h : j < i) : (bz_bv f i).testBit j = f j := by
  induction i with
  | zero => omega
  | succ i ih =>
    show (2 ^ i * (f i).toNat + bz_bv f i).testBit j = _
    rw [Nat.testBit_two_pow_mul_add _ (bz_bv_lt f i)]
    by_cases e : j < i
    · rw [if_pos e]; exact ih e
    · have : j = i := by omega
      subst this
      rw [if_neg e, Nat.sub_self]
      cases f j <;> rfl
theorem bz_bv_uq {f : Nat → Bool} {w v : Nat} (hv : v < 2 ^ w) (h : ∀ j, j < w → f j = v.testBit j) : bz_bv f w = v := by
  apply Nat.eq_of_testBit_eq
  intro j
  by_cases hj : j < w
  · rw [bz_bv_tb f hj, h j hj]
  · have e : 2 ^ w ≤ 2 ^ j := Nat.pow_le_pow_right (by decide) (by omega)
    rw [Nat.testBit_lt_two_pow (Nat.lt_of_lt_of_le (bz_bv_lt f w) e), Nat.testBit_lt_two_pow (Nat.lt_of_lt_of_le hv e)]
/-- the carry into bit i -/
def bz_cy (s p : Nat → Bool) (c : Bool) : Nat → Bool
  | 0 => c
  | i + 1 => (s i && p i) || ((s i ^^ p i) && bz_cy s p c i)
def bz_so (s p : Nat → Bool) (c : Bool) (i : Nat) : Bool := (s i ^^ p i) ^^ bz_cy s p c i
theorem bz_addv (s p : Nat → Bool) (c : Bool) (i : Nat) :
    bz_bv (bz_so s p c) i + 2 ^ i * (bz_cy s p c i).toNat = bz_bv s i + bz_bv p i + c.toNat := by
  induction i with
  | zero => cases c <;> rfl
  | succ i ih =>
    show 2 ^ i * (bz_so s p c i).toNat + bz_bv (bz_so s p c) i + 2 ^ (i + 1) * (bz_cy s p c (i + 1)).toNat = 2 ^ i * (s i).toNat + bz_bv s i + (2 ^ i * (p i).toNat + bz_bv p i) + c.toNat
    have e : bz_cy s p c (i + 1) = ((s i && p i) || ((s i ^^ p i) && bz_cy s p c i)) := rfl
    have e2 : bz_so s p c i = ((s i ^^ p i) ^^ bz_cy s p c i) := rfl
    rw [Nat.pow_succ, e, e2]
    generalize 2 ^ i = q at *
    generalize bz_bv (bz_so s p c) i = z1 at *
    generalize bz_bv s i = z2 at *
    generalize bz_bv p i = z3 at *
    revert ih
    cases s i <;> cases p i <;> cases bz_cy s p c i <;> simp <;> omega
theorem bz_addm (s p : Nat → Bool) (c : Bool) (w : Nat) :
    bz_bv (bz_so s p c) w = (bz_bv s w + bz_bv p w + c.toNat) % 2 ^ w := by
  rw [← bz_addv, Nat.add_mul_mod_self_left, Nat.mod_eq_of_lt (bz_bv_lt _ _)]
theorem bz_notv (f : Nat → Bool) (i : Nat) : bz_bv (fun j => !f j) i + bz_bv f i + 1 = 2 ^ i := by
  induction i with
  | zero => rfl
  | succ i ih =>
    show 2 ^ i * (!f i).toNat + bz_bv (fun j => !f j) i + (2 ^ i * (f i).toNat + bz_bv f i) + 1 = 2 ^ (i + 1)
    rw [Nat.pow_succ]
    cases f i <;> simp <;> omega
/-- less, from the lowest bit up; at a bit where tn holds the other way round -/
def bz_ls (tn a b : Nat → Bool) : Nat → Bool
  | 0 => false
  | i + 1 => (if tn i = true then (a i && !b i) else ((!a i) && b i)) || ((!(a i ^^ b i)) && bz_ls tn a b i)
theorem bz_lsv (tn a b : Nat → Bool) (i : Nat) (h : ∀ j, j < i → tn j = false) : bz_ls tn a b i = decide (bz_bv a i < bz_bv b i) := by
  induction i with
  | zero => rfl
  | succ i ih =>
    show ((if tn i = true then (a i && !b i) else ((!a i) && b i)) || ((!(a i ^^ b i)) && bz_ls tn a b i)) = decide (2 ^ i * (a i).toNat + bz_bv a i < 2 ^ i * (b i).toNat + bz_bv b i)
    rw [ih (fun j hj => h j (by omega)), h i (by omega)]
    have h1 := bz_bv_lt a i
    have h2 := bz_bv_lt b i
    generalize 2 ^ i = q at *
    cases a i <;> cases b i <;> simp <;> omega
theorem bz_lsS (tn a b : Nat → Bool) (i : Nat) (h : ∀ j, j < i → tn j = false) (ht : tn i = true) :
    bz_ls tn a b (i + 1) = ((a i && !b i) || ((!(a i ^^ b i)) && decide (bz_bv a i < bz_bv b i))) := by
  show ((if tn i = true then (a i && !b i) else ((!a i) && b i)) || ((!(a i ^^ b i)) && bz_ls tn a b i)) = _
  rw [if_pos ht, bz_lsv tn a b i h]
/-- the rows of a product -/
def bz_mr (A B : Nat → Bool) (k j : Nat) : Bool := decide (k ≤ j) && (A (j - k) && B k)
def bz_mu (A B : Nat → Bool) : Nat → Nat → Bool
  | 0, _ => false
  | k + 1, j => bz_so (bz_mu A B k) (bz_mr A B k) false j
theorem bz_mrv (A B : Nat → Bool) (k w : Nat) : bz_bv (bz_mr A B k) w = (2 ^ k * (B k).toNat * bz_bv A w) % 2 ^ w := by
  apply bz_bv_uq (Nat.mod_lt _ (Nat.two_pow_pos w))
  intro j hj
  unfold bz_mr
  rw [Nat.testBit_mod_two_pow, decide_eq_true hj, Bool.true_and]
  cases B k
  · simp
  · rw [Nat.mul_comm, show (2 ^ k * true.toNat) = 2 ^ k from Nat.mul_one _, Nat.testBit_mul_two_pow]
    by_cases h : k ≤ j
    · rw [decide_eq_true h, bz_bv_tb A (by omega)]; simp
    · rw [decide_eq_false h]; rfl
theorem bz_bv0 (f : Nat → Bool) (h : ∀ j, f j = false) (i : Nat) : bz_bv f i = 0 := by
  induction i with
  | zero => rfl
  | succ i ih =>
    show 2 ^ i * (f i).toNat + bz_bv f i = 0
    rw [ih, h i]; rfl
theorem bz_muv (A B : Nat → Bool) (w k : Nat) : bz_bv (bz_mu A B k) w = (bz_bv B k * bz_bv A w) % 2 ^ w := by
  induction k with
  | zero =>
    rw [bz_bv0 (bz_mu A B 0) (fun _ => rfl)]
    show 0 = 0 * bz_bv A w % 2 ^ w
    rw [Nat.zero_mul, Nat.zero_mod]
  | succ k ih =>
    show bz_bv (bz_so (bz_mu A B k) (bz_mr A B k) false) w = (2 ^ k * (B k).toNat + bz_bv B k) * bz_bv A w % 2 ^ w
    rw [bz_addm, ih, bz_mrv, Nat.add_mul]
    show (_ + _ + 0) % _ = _
    rw [Nat.add_zero, ← Nat.add_mod, Nat.add_comm]
/-- all of the first k requirements -/
def bz_all (Q : Nat → Nat → Bool) : Nat → Nat → Bool
  | 0, _ => true
  | k + 1, x => bz_all Q k x && Q k x
def bz_eq (A B : Nat → Nat → Bool) (j x : Nat) : Bool := !(A j x ^^ B j x)
theorem bz_eqv (A B : Nat → Nat → Bool) (i x : Nat) : bz_all (bz_eq A B) i x = decide (bz_bv (fun j => A j x) i = bz_bv (fun j => B j x) i) := by
  induction i with
  | zero => rfl
  | succ i ih =>
    show (bz_all (bz_eq A B) i x && !(A i x ^^ B i x)) = decide (2 ^ i * (A i x).toNat + bz_bv (fun j => A j x) i = 2 ^ i * (B i x).toNat + bz_bv (fun j => B j x) i)
    rw [ih]
    have h1 := bz_bv_lt (fun j => A j x) i
    have h2 := bz_bv_lt (fun j => B j x) i
    generalize 2 ^ i = q at *
    cases A i x <;> cases B i x <;> simp <;> omega
end
section
/-! bitwise, either, takeBack, joinAll -/
section
variable {post : Int32 → SX → Prop} {w tc ec rc : Nat} {N : bz_T} {st tb te rq sm pa ip : Nat → Int32} {f g t : Nat → Bool}
theorem bz_bw3 {a b : Int32} (hN : bz_NI w N) (hG : N.1 < 6000) (ha : bz_ed w N a f) (hb : bz_ed w N b g)
    (K : ∀ N' v, bz_X w N N' → N'.1 ≤ N.1 + 1 → bz_ed w N' v (fun x => f x && g x) → post v (nI w, nI (3 * w), nI N'.1, nI tc, nI ec, nI rc, N'.2.1, N'.2.2.1, N'.2.2.2.1, N'.2.2.2.2, st, tb, te, rq, sm, pa, ip)) :
    wpX_bitwise post (nI w, nI (3 * w), nI N.1, nI tc, nI ec, nI rc, N.2.1, N.2.2.1, N.2.2.2.1, N.2.2.2.2, st, tb, te, rq, sm, pa, ip) 3 a b :=
  br_t rfl (bz_gate hN hG ha hb K)
theorem bz_bw4 {a b : Int32} (hN : bz_NI w N) (hG : N.1 < 6000) (ha : bz_ed w N a f) (hb : bz_ed w N b g)
    (K : ∀ N' v, bz_X w N N' → N'.1 ≤ N.1 + 1 → bz_ed w N' v (fun x => f x || g x) → post v (nI w, nI (3 * w), nI N'.1, nI tc, nI ec, nI rc, N'.2.1, N'.2.2.1, N'.2.2.2.1, N'.2.2.2.2, st, tb, te, rq, sm, pa, ip)) :
    wpX_bitwise post (nI w, nI (3 * w), nI N.1, nI tc, nI ec, nI rc, N.2.1, N.2.2.1, N.2.2.2.1, N.2.2.2.2, st, tb, te, rq, sm, pa, ip) 4 a b :=
  br_f (by decide) (bz_gate hN hG (bz_ed_not ha) (bz_ed_not hb) (fun N1 v1 e1 g1 d1 =>
    br_t rfl (K N1 (v1 ^^^ 1) e1 g1 (bz_ed_eq (bz_ed_not d1) (fun x => by cases f x <;> cases g x <;> rfl)))))
theorem bz_bw5 {a b : Int32} (hN : bz_NI w N) (hG : N.1 + 3 ≤ 6000) (ha : bz_ed w N a f) (hb : bz_ed w N b g)
    (K : ∀ N' v, bz_X w N N' → N'.1 ≤ N.1 + 3 → bz_ed w N' v (fun x => f x ^^ g x) → post v (nI w, nI (3 * w), nI N'.1, nI tc, nI ec, nI rc, N'.2.1, N'.2.2.1, N'.2.2.2.1, N'.2.2.2.2, st, tb, te, rq, sm, pa, ip)) :
    wpX_bitwise post (nI w, nI (3 * w), nI N.1, nI tc, nI ec, nI rc, N.2.1, N.2.2.1, N.2.2.2.1, N.2.2.2.2, st, tb, te, rq, sm, pa, ip) 5 a b :=
  br_f (by decide) (bz_gate hN (by omega) (bz_ed_not ha) (bz_ed_not hb) (fun N1 v1 e1 g1 d1 =>
    br_f (by decide) (bz_gate e1.1 (by omega) (bz_ed_X e1 ha) (bz_ed_X e1 hb) (fun N2 v2 e2 g2 d2 =>
      bz_gate e2.1 (by omega) (bz_ed_not (bz_ed_X e2 d1)) (bz_ed_not d2) (fun N3 v3 e3 g3 d3 =>
        K N3 v3 (bz_X_tr (bz_X_tr e1 e2) e3) (by omega) (bz_ed_eq d3 (fun x => by cases f x <;> cases g x <;> rfl)))))))
theorem bz_either {c a b : Int32} (hN : bz_NI w N) (hG : N.1 + 3 ≤ 6000) (hc : bz_ed w N c t) (ha : bz_ed w N a f) (hb : bz_ed w N b g)
    (K : ∀ N' v, bz_X w N N' → N'.1 ≤ N.1 + 3 → bz_ed w N' v (fun x => if t x = true then f x else g x) → post v (nI w, nI (3 * w), nI N'.1, nI tc, nI ec, nI rc, N'.2.1, N'.2.2.1, N'.2.2.2.1, N'.2.2.2.2, st, tb, te, rq, sm, pa, ip)) :
    wpX_either post (nI w, nI (3 * w), nI N.1, nI tc, nI ec, nI rc, N.2.1, N.2.2.1, N.2.2.2.1, N.2.2.2.2, st, tb, te, rq, sm, pa, ip) c a b :=
  bz_gate hN (by omega) hc ha (fun N1 v1 e1 g1 d1 =>
    bz_gate e1.1 (by omega) (bz_ed_not (bz_ed_X e1 hc)) (bz_ed_X e1 hb) (fun N2 v2 e2 g2 d2 =>
      bz_bw4 e2.1 (by omega) (bz_ed_X e2 d1) d2 (fun N3 v3 e3 g3 d3 =>
        K N3 v3 (bz_X_tr (bz_X_tr e1 e2) e3) (by omega) (bz_ed_eq d3 (fun x => by cases t x <;> cases f x <;> cases g x <;> rfl)))))
theorem bz_join4 {Q : Nat → Nat → Bool} (hrc : rc ≤ 10) : ∀ (m i n : Nat) (N : bz_T) (c : Int32), i + m = rc → m < n → bz_NI w N → N.1 + m ≤ 6000 →
    (∀ k, k < rc → bz_ed w N (rq k) (Q k)) → bz_ed w N c (bz_all Q i) →
    (∀ N' v, bz_X w N N' → N'.1 ≤ N.1 + m → bz_ed w N' v (bz_all Q rc) → post v (nI w, nI (3 * w), nI N'.1, nI tc, nI ec, nI rc, N'.2.1, N'.2.2.1, N'.2.2.2.1, N'.2.2.2.2, st, tb, te, rq, sm, pa, ip)) →
    wX_joinAll_4 post n c (nI i) (nI w) (nI (3 * w)) (nI N.1) (nI tc) (nI ec) (nI rc) N.2.1 N.2.2.1 N.2.2.2.1 N.2.2.2.2 st tb te rq sm pa ip := by
  intro m
  induction m with
  | zero =>
    intro i n N c hi hn hN _ hQ hc K
    obtain ⟨n, rfl⟩ : ∃ q, n = q + 1 := ⟨n - 1, by omega⟩
    have e : i = rc := by omega
    subst e
    exact br_t (nI_le (Nat.le_refl _) (by omega)) (K N c (bz_X_rf hN) (by omega) hc)
  | succ m ih =>
    intro i n N c hi hn hN hG hQ hc K
    obtain ⟨n, rfl⟩ : ∃ q, n = q + 1 := ⟨n - 1, by omega⟩
    refine br_f (nI_ge (by omega) (by omega)) ⟨vp_in_nI (by omega) (by omega), ?_⟩
    rw [nI_clamp (by omega)]
    refine bz_gate hN (by omega) hc (hQ i (by omega)) (fun N1 v1 e1 g1 d1 => ?_)
    refine nm_r (nI_1 i) ?_
    exact ih (i + 1) n N1 v1 (by omega) (by omega) e1.1 (by omega) (fun k hk => bz_ed_X e1 (hQ k hk)) d1
      (fun N2 v2 e2 g2 d2 => K N2 v2 (bz_X_tr e1 e2) (by omega) d2)
theorem bz_join {Q : Nat → Nat → Bool} (hrc : rc ≤ 10) (hN : bz_NI w N) (hG : N.1 + rc ≤ 6000) (hQ : ∀ k, k < rc → bz_ed w N (rq k) (Q k))
    (K : ∀ N' v, bz_X w N N' → N'.1 ≤ N.1 + rc → bz_ed w N' v (bz_all Q rc) → post v (nI w, nI (3 * w), nI N'.1, nI tc, nI ec, nI rc, N'.2.1, N'.2.2.1, N'.2.2.2.1, N'.2.2.2.2, st, tb, te, rq, sm, pa, ip)) : wpX_joinAll post (nI w, nI (3 * w), nI N.1, nI tc, nI ec, nI rc, N.2.1, N.2.2.1, N.2.2.2.1, N.2.2.2.2, st, tb, te, rq, sm, pa, ip) :=
  ⟨rc + 1, bz_join4 hrc rc 0 (rc + 1) N 1 (by omega) (by omega) hN hG hQ bz_ed_1 K⟩
end
section
variable {post : SX → Prop} {w tc ec rc : Nat} {st tb te rq sm pa ip : Nat → Int32}
theorem bz_tb1 {G : Nat} {l r c b : Nat → Int32} (hN : bz_NI w (G + 1, l, r, c, b)) (hG : 13 ≤ G) : bz_NI w (G, l, r, c, upd b (bz_key l r G) (c G)) := by
  have hw := hN.1
  have hg := hN.2.1
  have wf := hN.2.2.1
  have ch := hN.2.2.2.1
  have bk := hN.2.2.2.2
  dsimp only at hg wf ch bk
  refine ⟨hw, ⟨hG, by dsimp only; omega⟩, fun j h1 h2 => wf j h1 (Nat.lt_succ_of_lt h2), fun j h1 h2 => ch j h1 (Nat.lt_succ_of_lt h2), ?_⟩
  dsimp only
  intro k hk
  by_cases e : k = bz_key l r G
  · subst e
    rw [pk_us]
    rcases ch G hG (by omega) with e | ⟨q, q1, q2, q3, q4⟩
    · exact Or.inl e
    · exact Or.inr ⟨q, q1, q2, q3, q4⟩
  · rw [pk_un e]
    rcases bk k hk with e1 | ⟨q, q1, q2, q3, q4⟩
    · exact Or.inl e1
    · refine Or.inr ⟨q, q1, ?_, q3, q4⟩
      have : q ≠ G := fun z => e (by rw [← q4, z])
      omega
theorem bz_tb0 {m : Nat} (hm : 13 ≤ m) {l r c : Nat → Int32} : ∀ (d n : Nat) (b : Nat → Int32), d < n → bz_NI w (m + d, l, r, c, b) →
    (∀ b', bz_NI w (m, l, r, c, b') → post (nI w, nI (3 * w), nI ((m, l, r, c, b') : bz_T).1, nI tc, nI ec, nI rc, ((m, l, r, c, b') : bz_T).2.1, ((m, l, r, c, b') : bz_T).2.2.1, ((m, l, r, c, b') : bz_T).2.2.2.1, ((m, l, r, c, b') : bz_T).2.2.2.2, st, tb, te, rq, sm, pa, ip)) →
    wX_takeBack_0 post (nI m) (nI w) (nI (3 * w)) (nI tc) (nI ec) (nI rc) n (nI (m + d)) l r c b st tb te rq sm pa ip := by
  intro d
  induction d with
  | zero =>
    intro n b hn hN K
    obtain ⟨n, rfl⟩ : ∃ q, n = q + 1 := ⟨n - 1, by omega⟩
    have h2 := hN.2.1.2
    dsimp only at h2
    exact br_t (nI_le (Nat.le_refl _) (by omega)) (K b hN)
  | succ d ih =>
    intro n b hn hN K
    obtain ⟨n, rfl⟩ : ∃ q, n = q + 1 := ⟨n - 1, by omega⟩
    have h2 := hN.2.1.2
    dsimp only at h2
    have hi : vp_in (nI (m + d)) 6000 := vp_in_nI (by omega) (by omega)
    have hcl : (nI (m + d)).toNatClampNeg = m + d := nI_clamp (by omega)
    obtain ⟨k, hk, ek⟩ := pk_andE (l (m + d) * 31 + r (m + d) * 17) (m := 255) 8 (by decide)
    have hk2 : k < 256 := hk
    have kk : bz_key l r (m + d) = k := by unfold bz_key; rw [ek]; exact nI_clamp (by omega)
    refine br_f (nI_ge (by omega) (by omega)) (nm_r (nI_pred (m + d)) ⟨hi, hi, ?_⟩)
    rw [hcl]
    refine nm_r ek ⟨hi, vp_in_nI hk2 (by omega), ?_⟩
    rw [nI_clamp (n := k) (by omega), ← kk]
    exact nm_e (ih n _ (by omega) (bz_tb1 hN (by omega)) K)
theorem bz_back {N N' : bz_T} (hN : bz_NI w N) (hX : bz_X w N N') (K : ∀ N'', bz_X w N N'' → N''.1 = N.1 → post (nI w, nI (3 * w), nI N''.1, nI tc, nI ec, nI rc, N''.2.1, N''.2.2.1, N''.2.2.2.1, N''.2.2.2.2, st, tb, te, rq, sm, pa, ip)) :
    wpX_takeBack post (nI w, nI (3 * w), nI N'.1, nI tc, nI ec, nI rc, N'.2.1, N'.2.2.1, N'.2.2.2.1, N'.2.2.2.2, st, tb, te, rq, sm, pa, ip) (nI N.1) := by
  obtain ⟨G, l, r, c, b⟩ := N'
  have h1 := hX.2.1
  dsimp only at h1
  obtain ⟨d, rfl⟩ : ∃ d, G = N.1 + d := ⟨G - N.1, by omega⟩
  exact ⟨d + 1, bz_tb0 hN.2.1.1 d (d + 1) b (by omega) hX.1 (fun b' h => K _ ⟨h, Nat.le_refl _, hX.2.2⟩ rfl)⟩
end
end
section
/-! words of edges: fill loops, adder, product, comparisons -/
theorem bz_ix (a i : Nat) : 4 * nI a + nI i = nI (4 * a + i) := by
  show nI 4 * nI a + nI i = _
  rw [pk_mul, nI_add]
theorem bz_fl {s F : Nat → Int32} {i : Nat} {x : Int32} (h : ∀ j, j < i → s j = F j) (e : x = F i) : ∀ j, j < i + 1 → upd s i x j = F j := by
  intro j hj
  by_cases q : j = i
  · subst q; rw [pk_us]; exact e
  · rw [pk_un q]; exact h j (by omega)
section
variable {post : SX → Prop} {w tc ec rc : Nat} {N : bz_T} {st tb te rq sm pa ip : Nat → Int32}
theorem bz_take {a : Nat} (ha : a < 28) (hw : w ≤ 4) (K : ∀ sm', (∀ j, j < w → sm' j = tb (4 * a + j)) → post (nI w, nI (3 * w), nI N.1, nI tc, nI ec, nI rc, N.2.1, N.2.2.1, N.2.2.2.1, N.2.2.2.2, st, tb, te, rq, sm', pa, ip)) :
    wpX_takeTerm post (nI w, nI (3 * w), nI N.1, nI tc, nI ec, nI rc, N.2.1, N.2.2.1, N.2.2.2.1, N.2.2.2.2, st, tb, te, rq, sm, pa, ip) (nI a) := by
  refine loop_0 (fun n i s => wX_takeTerm_2 post (nI a) (nI w) (nI (3 * w)) (nI N.1) (nI tc) (nI ec) (nI rc) n (nI i) N.2.1 N.2.2.1 N.2.2.2.1 N.2.2.2.2 st tb te rq s pa ip) (fun i s => ∀ j, j < i → s j = tb (4 * a + j)) w sm (fun j h => by omega)
    (fun n s h => br_t (nI_le (Nat.le_refl _) (by omega)) (K s h)) (fun n i s hi h ih => ?_)
  refine br_f (nI_ge hi (by omega)) ?_
  rw [bz_ix, nI_clamp (n := 4 * a + i) (by omega), nI_clamp (n := i) (by omega)]
  exact ⟨vp_in_nI (by omega) (by omega), vp_in_nI (by omega) (by omega), nm_e (nm_r (nI_1 i) (ih _ (bz_fl (F := fun j => tb (4 * a + j)) h rfl)))⟩
theorem bz_add4 {s p : Nat → Nat → Bool} {c0 : Nat → Bool} (hw : w ≤ 4) : ∀ (m i n : Nat) (N : bz_T) (sm : Nat → Int32) (c : Int32), i + m = w → m < n → bz_NI w N → N.1 + 9 * m ≤ 6000 →
    (∀ j, j < w → bz_ed w N (pa j) (p j)) →
    (∀ j, j < i → bz_ed w N (sm j) (fun x => bz_so (fun j => s j x) (fun j => p j x) (c0 x) j)) →
    (∀ j, i ≤ j → j < w → bz_ed w N (sm j) (s j)) →
    bz_ed w N c (fun x => bz_cy (fun j => s j x) (fun j => p j x) (c0 x) i) →
    (∀ N' sm', bz_X w N N' → N'.1 ≤ N.1 + 9 * m → (∀ j, j < w → bz_ed w N' (sm' j) (fun x => bz_so (fun j => s j x) (fun j => p j x) (c0 x) j)) → post (nI w, nI (3 * w), nI N'.1, nI tc, nI ec, nI rc, N'.2.1, N'.2.2.1, N'.2.2.2.1, N'.2.2.2.2, st, tb, te, rq, sm', pa, ip)) →
    wX_addPart_4 post n c (nI i) (nI w) (nI (3 * w)) (nI N.1) (nI tc) (nI ec) (nI rc) N.2.1 N.2.2.1 N.2.2.2.1 N.2.2.2.2 st tb te rq sm pa ip := by
  intro m
  induction m with
  | zero =>
    intro i n N sm c hi hn hN _ _ h1 _ _ K
    obtain ⟨n, rfl⟩ : ∃ q, n = q + 1 := ⟨n - 1, by omega⟩
    have e : i = w := by omega
    subst e
    exact br_t (nI_le (Nat.le_refl _) (by omega)) (K N sm (bz_X_rf hN) (by omega) h1)
  | succ m ih =>
    intro i n N sm c hi hn hN hG hp h1 h2 hc K
    obtain ⟨n, rfl⟩ : ∃ q, n = q + 1 := ⟨n - 1, by omega⟩
    have hi4 : vp_in (nI i) 4 := vp_in_nI (by omega) (by omega)
    have hs := h2 i (Nat.le_refl _) (by omega)
    have hpi := hp i (by omega)
    refine br_f (nI_ge (by omega) (by omega)) ⟨hi4, hi4, ?_⟩
    rw [nI_clamp (n := i) (by omega)]
    refine bz_bw5 hN (by omega) hs hpi (fun N1 v1 e1 g1 d1 => ⟨hi4, hi4, ?_⟩)
    refine bz_gate e1.1 (by omega) (bz_ed_X e1 hs) (bz_ed_X e1 hpi) (fun N2 v2 e2 g2 d2 => ?_)
    refine bz_gate e2.1 (by omega) (bz_ed_X e2 d1) (bz_ed_X (bz_X_tr e1 e2) hc) (fun N3 v3 e3 g3 d3 => ?_)
    refine bz_bw5 e3.1 (by omega) (bz_ed_X (bz_X_tr e2 e3) d1) (bz_ed_X (bz_X_tr (bz_X_tr e1 e2) e3) hc) (fun N4 v4 e4 g4 d4 => ⟨hi4, nm_e ?_⟩)
    refine bz_bw4 e4.1 (by omega) (bz_ed_X (bz_X_tr e3 e4) d2) (bz_ed_X e4 d3) (fun N5 v5 e5 g5 d5 => nm_r (nI_1 i) ?_)
    have E : bz_X w N N5 := bz_X_tr (bz_X_tr (bz_X_tr (bz_X_tr e1 e2) e3) e4) e5
    refine ih (i + 1) n N5 (upd sm i v4) v5 (by omega) (by omega) e5.1 (by omega) (fun j hj => bz_ed_X E (hp j hj)) (fun j hj => ?_) (fun j hj hj2 => ?_) d5
      (fun N6 sm6 e6 g6 d6 => K N6 sm6 (bz_X_tr E e6) (by omega) d6)
    · by_cases q : j = i
      · subst q; rw [pk_us]; exact bz_ed_X e5 d4
      · rw [pk_un q]; exact bz_ed_X E (h1 j (by omega))
    · rw [pk_un (by omega)]; exact bz_ed_X E (h2 j (by omega) hj2)
theorem bz_addP {s p : Nat → Nat → Bool} {c0 : Nat → Bool} {c : Int32} (hN : bz_NI w N) (hG : N.1 + 36 ≤ 6000)
    (hp : ∀ j, j < w → bz_ed w N (pa j) (p j)) (hs : ∀ j, j < w → bz_ed w N (sm j) (s j)) (hc : bz_ed w N c c0)
    (K : ∀ N' sm', bz_X w N N' → N'.1 ≤ N.1 + 36 → (∀ j, j < w → bz_ed w N' (sm' j) (fun x => bz_so (fun j => s j x) (fun j => p j x) (c0 x) j)) → post (nI w, nI (3 * w), nI N'.1, nI tc, nI ec, nI rc, N'.2.1, N'.2.2.1, N'.2.2.2.1, N'.2.2.2.2, st, tb, te, rq, sm', pa, ip)) :
    wpX_addPart post (nI w, nI (3 * w), nI N.1, nI tc, nI ec, nI rc, N.2.1, N.2.2.1, N.2.2.2.1, N.2.2.2.2, st, tb, te, rq, sm, pa, ip) c := by
  have hw := hN.1
  exact ⟨w + 1, bz_add4 hw.2 w 0 (w + 1) N sm c (by omega) (by omega) hN (by omega) hp (fun j h => by omega) (fun j _ h => hs j h) hc
    (fun N' sm' h1 h2 h3 => K N' sm' h1 (by omega) h3)⟩
theorem bz_mu36 {A B S : Nat → Nat → Bool} {a b k : Nat} {J : Int32 → Int32 → Int32 → Int32 → Int32 → Int32 → Int32 → (Nat → Int32) → (Nat → Int32) → (Nat → Int32) → (Nat → Int32) → (Nat → Int32) → (Nat → Int32) → (Nat → Int32) → (Nat → Int32) → (Nat → Int32) → (Nat → Int32) → (Nat → Int32) → Prop}
    (ha : a < 28) (hb : b < 28) (hk : k < w) : ∀ (m i n : Nat) (N : bz_T) (pa : Nat → Int32), i + m = w → m < n → bz_NI w N → N.1 + m + 36 ≤ 6000 →
    (∀ j, j < w → bz_ed w N (tb (4 * a + j)) (A j)) → (∀ j, j < w → bz_ed w N (tb (4 * b + j)) (B j)) →
    (∀ j, j < w → bz_ed w N (sm j) (S j)) →
    (∀ j, j < i → bz_ed w N (pa j) (fun x => bz_mr (fun j => A j x) (fun j => B j x) k j)) →
    (∀ N' sm' pa', bz_X w N N' → N'.1 ≤ N.1 + m + 36 →
      (∀ j, j < w → bz_ed w N' (sm' j) (fun x => bz_so (fun j => S j x) (bz_mr (fun j => A j x) (fun j => B j x) k) false j)) → J (nI (k + 1)) (nI w) (nI (3 * w)) (nI N'.1) (nI tc) (nI ec) (nI rc) N'.2.1 N'.2.2.1 N'.2.2.2.1 N'.2.2.2.2 st tb te rq sm' pa' ip) →
    wX_multiply_36 post J (nI a) (nI b) (nI k) n (nI i) (nI w) (nI (3 * w)) (nI N.1) (nI tc) (nI ec) (nI rc) N.2.1 N.2.2.1 N.2.2.2.1 N.2.2.2.2 st tb te rq sm pa ip := by
  intro m
  induction m with
  | zero =>
    intro i n N pa hi hn hN hG hA hB hS hP K
    obtain ⟨n, rfl⟩ : ∃ q, n = q + 1 := ⟨n - 1, by omega⟩
    have e : i = w := by omega
    subst e
    have hw := hN.1
    refine br_t (nI_le (Nat.le_refl _) (by omega)) ?_
    exact bz_addP hN (by omega) hP hS bz_ed_0 (fun N' sm' h1 h2 h3 => nm_r (nI_1 k) (K N' sm' pa h1 (by omega) h3))
  | succ m ih =>
    intro i n N pa hi hn hN hG hA hB hS hP K
    obtain ⟨n, rfl⟩ : ∃ q, n = q + 1 := ⟨n - 1, by omega⟩
    have hw := hN.1
    have hi4 : vp_in (nI i) 4 := vp_in_nI (by omega) (by omega)
    refine br_f (nI_ge (by omega) (by omega)) ?_
    by_cases h : i < k
    · refine br_t (nI_lt h (by omega)) ⟨hi4, nm_e (nm_r (nI_1 i) ?_)⟩
      rw [nI_clamp (n := i) (by omega)]
      refine ih (i + 1) n N _ (by omega) (by omega) hN (by omega) hA hB hS (fun j hj => ?_) (fun N' sm' pa' h1 h2 h3 => K N' sm' pa' h1 (by omega) h3)
      by_cases q : j = i
      · subst q; rw [pk_us]
        exact bz_ed_eq bz_ed_0 (fun x => by unfold bz_mr; rw [decide_eq_false (by omega)]; rfl)
      · rw [pk_un q]; exact hP j (by omega)
    · refine br_f (nI_nlt (by omega) (by omega)) ?_
      rw [bz_ix, bz_ix, pk_sub (by omega), nI_clamp (n := 4 * a + i - k) (by omega), nI_clamp (n := 4 * b + k) (by omega)]
      refine ⟨vp_in_nI (by omega) (by omega), vp_in_nI (by omega) (by omega), ?_⟩
      have hAi := hA (i - k) (by omega)
      rw [show 4 * a + (i - k) = 4 * a + i - k by omega] at hAi
      refine bz_gate hN (by omega) hAi (hB k hk) (fun N1 v1 e1 g1 d1 => ⟨hi4, nm_e (nm_r (nI_1 i) ?_)⟩)
      rw [nI_clamp (n := i) (by omega)]
      refine ih (i + 1) n N1 _ (by omega) (by omega) e1.1 (by omega) (fun j hj => bz_ed_X e1 (hA j hj)) (fun j hj => bz_ed_X e1 (hB j hj)) (fun j hj => bz_ed_X e1 (hS j hj))
        (fun j hj => ?_) (fun N' sm' pa' h1 h2 h3 => K N' sm' pa' (bz_X_tr e1 h1) (by omega) h3)
      by_cases q : j = i
      · subst q; rw [pk_us]
        exact bz_ed_eq d1 (fun x => by unfold bz_mr; rw [decide_eq_true (by omega)]; rfl)
      · rw [pk_un q]; exact bz_ed_X e1 (hP j (by omega))
theorem bz_mu25 {A B : Nat → Nat → Bool} {a b : Nat} (ha : a < 28) (hb : b < 28) : ∀ (m k n : Nat) (N : bz_T) (sm pa : Nat → Int32), k + m = w → m < n → bz_NI w N → N.1 + 40 * m ≤ 6000 →
    (∀ j, j < w → bz_ed w N (tb (4 * a + j)) (A j)) → (∀ j, j < w → bz_ed w N (tb (4 * b + j)) (B j)) →
    (∀ j, j < w → bz_ed w N (sm j) (fun x => bz_mu (fun j => A j x) (fun j => B j x) k j)) →
    (∀ N' sm' pa', bz_X w N N' → N'.1 ≤ N.1 + 40 * m →
      (∀ j, j < w → bz_ed w N' (sm' j) (fun x => bz_mu (fun j => A j x) (fun j => B j x) w j)) → post (nI w, nI (3 * w), nI N'.1, nI tc, nI ec, nI rc, N'.2.1, N'.2.2.1, N'.2.2.2.1, N'.2.2.2.2, st, tb, te, rq, sm', pa', ip)) →
    wX_multiply_25 post (nI a) (nI b) n (nI k) (nI w) (nI (3 * w)) (nI N.1) (nI tc) (nI ec) (nI rc) N.2.1 N.2.2.1 N.2.2.2.1 N.2.2.2.2 st tb te rq sm pa ip := by
  intro m
  induction m with
  | zero =>
    intro k n N sm pa hk hn hN hG hA hB hS K
    obtain ⟨n, rfl⟩ : ∃ q, n = q + 1 := ⟨n - 1, by omega⟩
    have e : k = w := by omega
    subst e
    have hw := hN.1
    exact br_t (nI_le (Nat.le_refl _) (by omega)) (K N sm pa (bz_X_rf hN) (by omega) hS)
  | succ m ih =>
    intro k n N sm pa hk hn hN hG hA hB hS K
    obtain ⟨n, rfl⟩ : ∃ q, n = q + 1 := ⟨n - 1, by omega⟩
    have hw := hN.1
    refine br_f (nI_ge (by omega) (by omega)) ⟨w + 1, ?_⟩
    refine bz_mu36 ha hb (by omega) w 0 (w + 1) N pa (by omega) (by omega) hN (by omega) hA hB hS (fun j h => by omega) (fun N1 sm1 pa1 e1 g1 d1 => ?_)
    exact ih (k + 1) n N1 sm1 pa1 (by omega) (by omega) e1.1 (by omega) (fun j hj => bz_ed_X e1 (hA j hj)) (fun j hj => bz_ed_X e1 (hB j hj)) d1
      (fun N' sm' pa' h1 h2 h3 => K N' sm' pa' (bz_X_tr e1 h1) (by omega) h3)
theorem bz_mult {A B : Nat → Nat → Bool} {a b : Nat} (ha : a < 28) (hb : b < 28) (hN : bz_NI w N) (hG : N.1 + 160 ≤ 6000)
    (hA : ∀ j, j < w → bz_ed w N (tb (4 * a + j)) (A j)) (hB : ∀ j, j < w → bz_ed w N (tb (4 * b + j)) (B j))
    (K : ∀ N' sm' pa', bz_X w N N' → N'.1 ≤ N.1 + 160 →
      (∀ j, j < w → bz_ed w N' (sm' j) (fun x => bz_mu (fun j => A j x) (fun j => B j x) w j)) → post (nI w, nI (3 * w), nI N'.1, nI tc, nI ec, nI rc, N'.2.1, N'.2.2.1, N'.2.2.2.1, N'.2.2.2.2, st, tb, te, rq, sm', pa', ip)) :
    wpX_multiply post (nI w, nI (3 * w), nI N.1, nI tc, nI ec, nI rc, N.2.1, N.2.2.1, N.2.2.2.1, N.2.2.2.2, st, tb, te, rq, sm, pa, ip) (nI a) (nI b) := by
  have hw := hN.1
  refine loop_0 (fun n i s => wX_multiply_2 post (nI a) (nI b) (nI w) (nI (3 * w)) (nI N.1) (nI tc) (nI ec) (nI rc) n (nI i) N.2.1 N.2.2.1 N.2.2.2.1 N.2.2.2.2 st tb te rq s pa ip) (fun i s => ∀ j, j < i → s j = 0) w sm (fun j h => by omega)
    (fun n s h => ?_) (fun n i s hi h ih => ?_)
  · refine br_t (nI_le (Nat.le_refl _) (by omega)) ⟨w + 1, ?_⟩
    exact bz_mu25 ha hb w 0 (w + 1) N s pa (by omega) (by omega) hN (by omega) hA hB (fun j hj => by rw [h j hj]; exact bz_ed_0)
      (fun N' sm' pa' h1 h2 h3 => K N' sm' pa' h1 (by omega) h3)
  · refine br_f (nI_ge hi (by omega)) ⟨vp_in_nI (by omega) (by omega), nm_e (nm_r (nI_1 i) (ih _ ?_))⟩
    rw [nI_clamp (n := i) (by omega)]
    exact bz_fl (F := fun _ => 0) h rfl
end
end
section
/-! equal, less, keepTerm -/
section
variable {post : Int32 → SX → Prop} {w tc ec rc : Nat} {N : bz_T} {st tb te rq sm pa ip : Nat → Int32} {A B : Nat → Nat → Bool} {a b : Nat}
theorem bz_keep (htc : tc < 28) (hw : w ≤ 4) (K : ∀ tb', (∀ j, j < w → tb' (4 * tc + j) = sm j) → (∀ m, m < 4 * tc → tb' m = tb m) → post (nI tc) (nI w, nI (3 * w), nI N.1, nI (tc + 1), nI ec, nI rc, N.2.1, N.2.2.1, N.2.2.2.1, N.2.2.2.2, st, tb', te, rq, sm, pa, ip)) :
    wpX_keepTerm post (nI w, nI (3 * w), nI N.1, nI tc, nI ec, nI rc, N.2.1, N.2.2.1, N.2.2.2.1, N.2.2.2.2, st, tb, te, rq, sm, pa, ip) := by
  refine loop_0 (fun n i s => wX_keepTerm_2 post (nI w) (nI (3 * w)) (nI N.1) (nI tc) (nI ec) (nI rc) n (nI i) N.2.1 N.2.2.1 N.2.2.2.1 N.2.2.2.2 st s te rq sm pa ip)
    (fun i s => (∀ j, j < i → j < w → s (4 * tc + j) = sm j) ∧ (∀ m, m < 4 * tc → s m = tb m)) 4 tb ⟨fun j h => by omega, fun _ _ => rfl⟩
    (fun n s h => ?_) (fun n i s hi h ih => ?_)
  · refine br_t (nI_le (Nat.le_refl _) (by omega)) (nm_r (nI_1 tc) ?_)
    rw [nI_pred]
    exact K s (fun j hj => h.1 j (by omega) hj) h.2
  · refine br_f (nI_ge (b := 4) hi (by omega)) ?_
    rw [bz_ix, nI_clamp (n := 4 * tc + i) (by omega), nI_clamp (n := i) (by omega)]
    have hv : vp_in (nI (4 * tc + i)) 112 := vp_in_nI (by omega) (by omega)
    by_cases q : w ≤ i
    · refine br_t (nI_le q (by omega)) ⟨hv, nm_e (nm_r (nI_1 i) (ih _ ⟨fun j h1 h2 => ?_, fun m hm => ?_⟩))⟩
      · rw [pk_un (by omega)]; exact h.1 j (by omega) h2
      · rw [pk_un (by omega)]; exact h.2 m hm
    · refine br_f (nI_ge (by omega) (by omega)) ⟨vp_in_nI hi (by omega), hv, nm_e (nm_r (nI_1 i) (ih _ ⟨fun j h1 h2 => ?_, fun m hm => ?_⟩))⟩
      · by_cases z : j = i
        · subst z; exact pk_us
        · rw [pk_un (by omega)]; exact h.1 j (by omega) h2
      · rw [pk_un (by omega)]; exact h.2 m hm
theorem bz_eq5 (ha : a < 28) (hb : b < 28) : ∀ (m i n : Nat) (N : bz_T) (c : Int32), i + m = w → m < n → bz_NI w N → N.1 + 4 * m ≤ 6000 →
    (∀ j, j < w → bz_ed w N (tb (4 * a + j)) (A j)) → (∀ j, j < w → bz_ed w N (tb (4 * b + j)) (B j)) → bz_ed w N c (bz_all (bz_eq A B) i) →
    (∀ N' v, bz_X w N N' → N'.1 ≤ N.1 + 4 * m → bz_ed w N' v (bz_all (bz_eq A B) w) → post v (nI w, nI (3 * w), nI N'.1, nI tc, nI ec, nI rc, N'.2.1, N'.2.2.1, N'.2.2.2.1, N'.2.2.2.2, st, tb, te, rq, sm, pa, ip)) →
    wX_equal_5 post (nI a) (nI b) n c (nI i) (nI w) (nI (3 * w)) (nI N.1) (nI tc) (nI ec) (nI rc) N.2.1 N.2.2.1 N.2.2.2.1 N.2.2.2.2 st tb te rq sm pa ip := by
  intro m
  induction m with
  | zero =>
    intro i n N c hi hn hN _ _ _ hc K
    obtain ⟨n, rfl⟩ : ∃ q, n = q + 1 := ⟨n - 1, by omega⟩
    have e : i = w := by omega
    subst e
    have hw := hN.1
    exact br_t (nI_le (Nat.le_refl _) (by omega)) (K N c (bz_X_rf hN) (by omega) hc)
  | succ m ih =>
    intro i n N c hi hn hN hG hA hB hc K
    obtain ⟨n, rfl⟩ : ∃ q, n = q + 1 := ⟨n - 1, by omega⟩
    have hw := hN.1
    refine br_f (nI_ge (by omega) (by omega)) ?_
    rw [bz_ix, bz_ix, nI_clamp (n := 4 * a + i) (by omega), nI_clamp (n := 4 * b + i) (by omega)]
    refine ⟨vp_in_nI (by omega) (by omega), vp_in_nI (by omega) (by omega), ?_⟩
    refine bz_bw5 hN (by omega) (hA i (by omega)) (hB i (by omega)) (fun N1 v1 e1 g1 d1 => ?_)
    refine bz_gate e1.1 (by omega) (bz_ed_X e1 hc) (bz_ed_not d1) (fun N2 v2 e2 g2 d2 => nm_r (nI_1 i) ?_)
    have E : bz_X w N N2 := bz_X_tr e1 e2
    exact ih (i + 1) n N2 v2 (by omega) (by omega) e2.1 (by omega) (fun j hj => bz_ed_X E (hA j hj)) (fun j hj => bz_ed_X E (hB j hj)) d2
      (fun N' v h1 h2 h3 => K N' v (bz_X_tr E h1) (by omega) h3)
theorem bz_equal (ha : a < 28) (hb : b < 28) (hN : bz_NI w N) (hG : N.1 + 16 ≤ 6000)
    (hA : ∀ j, j < w → bz_ed w N (tb (4 * a + j)) (A j)) (hB : ∀ j, j < w → bz_ed w N (tb (4 * b + j)) (B j))
    (K : ∀ N' v, bz_X w N N' → N'.1 ≤ N.1 + 16 → bz_ed w N' v (fun x => decide (bz_bv (fun j => A j x) w = bz_bv (fun j => B j x) w)) → post v (nI w, nI (3 * w), nI N'.1, nI tc, nI ec, nI rc, N'.2.1, N'.2.2.1, N'.2.2.2.1, N'.2.2.2.2, st, tb, te, rq, sm, pa, ip)) :
    wpX_equal post (nI w, nI (3 * w), nI N.1, nI tc, nI ec, nI rc, N.2.1, N.2.2.1, N.2.2.2.1, N.2.2.2.2, st, tb, te, rq, sm, pa, ip) (nI a) (nI b) := by
  have hw := hN.1
  exact ⟨w + 1, bz_eq5 ha hb w 0 (w + 1) N 1 (by omega) (by omega) hN (by omega) hA hB bz_ed_1
    (fun N' v h1 h2 h3 => K N' v h1 (by omega) (bz_ed_eq h3 (fun x => bz_eqv A B w x)))⟩
/-- the bit that counts the other way round -/
def bz_tn (sg : Bool) (w i : Nat) : Bool := sg && decide (i + 1 = w)
theorem bz_ls6 {sg : Bool} (ha : a < 28) (hb : b < 28) : ∀ (m i n : Nat) (N : bz_T) (c : Int32), i + m = w → m < n → bz_NI w N → N.1 + 6 * m ≤ 6000 →
    (∀ j, j < w → bz_ed w N (tb (4 * a + j)) (A j)) → (∀ j, j < w → bz_ed w N (tb (4 * b + j)) (B j)) →
    bz_ed w N c (fun x => bz_ls (bz_tn sg w) (fun j => A j x) (fun j => B j x) i) →
    (∀ N' v, bz_X w N N' → N'.1 ≤ N.1 + 6 * m → bz_ed w N' v (fun x => bz_ls (bz_tn sg w) (fun j => A j x) (fun j => B j x) w) → post v (nI w, nI (3 * w), nI N'.1, nI tc, nI ec, nI rc, N'.2.1, N'.2.2.1, N'.2.2.2.1, N'.2.2.2.2, st, tb, te, rq, sm, pa, ip)) →
    wX_less_6 post (nI a) (nI b) (bz_I sg) n c (nI i) (nI w) (nI (3 * w)) (nI N.1) (nI tc) (nI ec) (nI rc) N.2.1 N.2.2.1 N.2.2.2.1 N.2.2.2.2 st tb te rq sm pa ip := by
  intro m
  induction m with
  | zero =>
    intro i n N c hi hn hN _ _ _ hc K
    obtain ⟨n, rfl⟩ : ∃ q, n = q + 1 := ⟨n - 1, by omega⟩
    have e : i = w := by omega
    subst e
    have hw := hN.1
    exact br_t (nI_le (Nat.le_refl _) (by omega)) (K N c (bz_X_rf hN) (by omega) hc)
  | succ m ih =>
    intro i n N c hi hn hN hG hA hB hc K
    obtain ⟨n, rfl⟩ : ∃ q, n = q + 1 := ⟨n - 1, by omega⟩
    have hw := hN.1
    have hAi := hA i (by omega)
    have hBi := hB i (by omega)
    have fin : ∀ (N1 : bz_T) (v1 : Int32), bz_X w N N1 → N1.1 ≤ N.1 + 1 → bz_ed w N1 v1 (fun x => if bz_tn sg w i = true then (A i x && !B i x) else ((!A i x) && B i x)) →
        wX_less_91 post (wX_less_6 post (nI a) (nI b) (bz_I sg) n) (nI a) (nI b) (bz_I sg) c (nI i) (tb (4 * a + i)) (tb (4 * b + i)) v1 (nI w) (nI (3 * w)) (nI N1.1) (nI tc) (nI ec) (nI rc) N1.2.1 N1.2.2.1 N1.2.2.2.1 N1.2.2.2.2 st tb te rq sm pa ip := by
      intro N1 v1 e1 g1 d1
      refine bz_bw5 e1.1 (by omega) (bz_ed_X e1 hAi) (bz_ed_X e1 hBi) (fun N2 v2 e2 g2 d2 => ?_)
      refine bz_gate e2.1 (by omega) (bz_ed_not d2) (bz_ed_X (bz_X_tr e1 e2) hc) (fun N3 v3 e3 g3 d3 => ?_)
      refine bz_bw4 e3.1 (by omega) (bz_ed_X (bz_X_tr e2 e3) d1) d3 (fun N4 v4 e4 g4 d4 => nm_r (nI_1 i) ?_)
      have E : bz_X w N N4 := bz_X_tr (bz_X_tr (bz_X_tr e1 e2) e3) e4
      exact ih (i + 1) n N4 v4 (by omega) (by omega) e4.1 (by omega) (fun j hj => bz_ed_X E (hA j hj)) (fun j hj => bz_ed_X E (hB j hj)) d4
        (fun N' v h1 h2 h3 => K N' v (bz_X_tr E h1) (by omega) h3)
    have pl : bz_tn sg w i = false → wX_less_60 post (wX_less_6 post (nI a) (nI b) (bz_I sg) n) (nI a) (nI b) (bz_I sg) c (nI i) (tb (4 * a + i)) (tb (4 * b + i)) (nI w) (nI (3 * w)) (nI N.1) (nI tc) (nI ec) (nI rc) N.2.1 N.2.2.1 N.2.2.2.1 N.2.2.2.2 st tb te rq sm pa ip := by
      intro h
      refine br_t rfl ?_
      refine bz_gate hN (by omega) (bz_ed_not hAi) hBi (fun N1 v1 e1 g1 d1 => fin N1 v1 e1 g1 ?_)
      exact bz_ed_eq d1 (fun x => by rw [h]; rfl)
    refine br_f (nI_ge (by omega) (by omega)) ?_
    rw [bz_ix, bz_ix, nI_clamp (n := 4 * a + i) (by omega), nI_clamp (n := 4 * b + i) (by omega)]
    refine ⟨vp_in_nI (by omega) (by omega), nm_e ⟨vp_in_nI (by omega) (by omega), nm_e ?_⟩⟩
    cases sg with
    | false => exact br_t rfl (pl rfl)
    | true =>
      refine br_f (by decide) ?_
      obtain ⟨w', rfl⟩ : ∃ q, w = q + 1 := ⟨w - 1, by omega⟩
      rw [nI_pred]
      by_cases q : i = w'
      · refine br_t (congrArg nI q) (br_f (by decide) ?_)
        refine bz_gate hN (by omega) hAi (bz_ed_not hBi) (fun N1 v1 e1 g1 d1 => fin N1 v1 e1 g1 ?_)
        exact bz_ed_eq d1 (fun x => by subst q; unfold bz_tn; rw [decide_eq_true rfl]; rfl)
      · refine br_f (fun z => q ((nI_eq (by omega) (by omega)).mp z)) (pl ?_)
        unfold bz_tn
        rw [decide_eq_false (by omega)]; rfl
theorem bz_less {sg : Bool} (ha : a < 28) (hb : b < 28) (hN : bz_NI w N) (hG : N.1 + 24 ≤ 6000)
    (hA : ∀ j, j < w → bz_ed w N (tb (4 * a + j)) (A j)) (hB : ∀ j, j < w → bz_ed w N (tb (4 * b + j)) (B j))
    (K : ∀ N' v, bz_X w N N' → N'.1 ≤ N.1 + 24 → bz_ed w N' v (fun x => bz_ls (bz_tn sg w) (fun j => A j x) (fun j => B j x) w) → post v (nI w, nI (3 * w), nI N'.1, nI tc, nI ec, nI rc, N'.2.1, N'.2.2.1, N'.2.2.2.1, N'.2.2.2.2, st, tb, te, rq, sm, pa, ip)) :
    wpX_less post (nI w, nI (3 * w), nI N.1, nI tc, nI ec, nI rc, N.2.1, N.2.2.1, N.2.2.2.1, N.2.2.2.2, st, tb, te, rq, sm, pa, ip) (nI a) (nI b) (bz_I sg) := by
  have hw := hN.1
  exact ⟨w + 1, bz_ls6 ha hb w 0 (w + 1) N 0 (by omega) (by omega) hN (by omega) hA hB bz_ed_0
    (fun N' v h1 h2 h3 => K N' v h1 (by omega) h3)⟩
end
end
section
/-! the makers of terms: what X keeps -/
def bz_nw (w tc : Nat) (N N' : bz_T) (tb tb' : Nat → Int32) (nv : Nat → Nat) : Prop :=
  bz_X w N N' ∧ N'.1 ≤ N.1 + 160 ∧ (∀ j, j < w → bz_ed w N' (tb' (4 * tc + j)) (fun x => (nv x).testBit j)) ∧ (∀ m, m < 4 * tc → tb' m = tb m)
theorem bz_fe {w i : Nat} {N : bz_T} {s : Nat → Int32} {x : Int32} {F : Nat → Nat → Bool} (h : ∀ j, j < i → bz_ed w N (s j) (F j)) (e : bz_ed w N x (F i)) :
    ∀ j, j < i + 1 → bz_ed w N (upd s i x j) (F j) := by
  intro j hj
  by_cases q : j = i
  · subst q; rw [pk_us]; exact e
  · rw [pk_un q]; exact h j (by omega)
theorem bz_vix {w v i : Nat} (hi : i < w) : 2 * (1 + nI w * nI v + nI w - 1 - nI i) = nI (2 * (w * v + w - i)) := by
  show nI 2 * (nI 1 + nI w * nI v + nI w - nI 1 - nI i) = _
  rw [pk_mul, nI_add, nI_add, pk_sub (by omega), pk_sub (by omega), pk_mul]
  exact congrArg nI (by omega)
theorem bz_ved {w v i : Nat} {N : bz_T} (hN : bz_NI w N) (hv : v < 3) (hi : i < w) :
    bz_ed w N (nI (2 * (w * v + w - i))) (fun x => (x / 2 ^ (w * (2 - v)) % 2 ^ w).testBit i) := by
  have hw := hN.1
  have hle : w * v + w ≤ 3 * w := by
    have : w * v ≤ w * 2 := Nat.mul_le_mul_left w (by omega)
    omega
  refine ⟨2 * (w * v + w - i), rfl, Or.inl (by omega), fun x s c => ?_⟩
  have h1 := c.2.1 (w * v + w - 1 - i) (by omega)
  have e1 : 1 + (w * v + w - 1 - i) = w * v + w - i := by omega
  have e2 : 3 * w - 1 - (w * v + w - 1 - i) = i + w * (2 - v) := by
    have : v = 0 ∨ v = 1 ∨ v = 2 := by omega
    rcases this with rfl | rfl | rfl <;> omega
  rw [e1, e2] at h1
  show bz_eb s _ = (x / 2 ^ (w * (2 - v)) % 2 ^ w).testBit i
  rw [Nat.testBit_mod_two_pow, decide_eq_true hi, Bool.true_and, Nat.testBit_div_two_pow, ← h1]
  unfold bz_eb
  rw [show 2 * (w * v + w - i) / 2 = w * v + w - i by omega, show 2 * (w * v + w - i) % 2 = 0 by omega]
  cases s (w * v + w - i) <;> rfl
theorem bz_cbit (x : Int32) {w i : Nat} (hw : w ≤ 4) (hi : i < w) : (x >>> (nI i &&& 31)) &&& 1 = bz_I ((x.toBitVec.toNat % 2 ^ w).testBit i) := by
  rw [pk_and _ 1 (by decide)]
  have h := b_sshr i (by omega) x (i := 0) (by omega)
  rw [if_pos (by omega)] at h
  rw [Nat.testBit_mod_two_pow, decide_eq_true hi, Bool.true_and]
  have h2 : x.toBitVec.toNat.testBit i = (x >>> (nI i &&& 31)).toBitVec.toNat.testBit 0 := h.symm
  rw [h2, bz_I_tb]
  rw [Nat.pow_zero, Nat.div_one, Nat.pow_one]
section
variable {post : Int32 → SX → Prop} {w tc ec rc : Nat} {N : bz_T} {st tb te rq sm pa ip : Nat → Int32} {V : Nat → Nat → Nat} {a b : Nat} {nv : Nat → Nat}
theorem bz_kfin {N' : bz_T} (htc : tc < 28) (hX : bz_X w N N') (hG : N'.1 ≤ N.1 + 160) (hs : ∀ j, j < w → bz_ed w N' (sm j) (fun x => (nv x).testBit j))
    (K : ∀ N' tb' sm' pa', bz_nw w tc N N' tb tb' nv → post (nI tc) (nI w, nI (3 * w), nI N'.1, nI (tc + 1), nI ec, nI rc, N'.2.1, N'.2.2.1, N'.2.2.2.1, N'.2.2.2.2, st, tb', te, rq, sm', pa', ip)) :
    wpX_keepTerm post (nI w, nI (3 * w), nI N'.1, nI tc, nI ec, nI rc, N'.2.1, N'.2.2.1, N'.2.2.2.1, N'.2.2.2.2, st, tb, te, rq, sm, pa, ip) :=
  bz_keep htc hX.1.1.2 (fun tb' h1 h2 => K N' tb' sm pa ⟨hX, hG, fun j hj => by rw [h1 j hj]; exact hs j hj, h2⟩)
theorem bz_xvar {v : Nat} (hN : bz_NI w N) (htc : tc < 28) (hv : v < 3)
    (K : ∀ N' tb' sm' pa', bz_nw w tc N N' tb tb' (fun x => x / 2 ^ (w * (2 - v)) % 2 ^ w) → post (nI tc) (nI w, nI (3 * w), nI N'.1, nI (tc + 1), nI ec, nI rc, N'.2.1, N'.2.2.1, N'.2.2.2.1, N'.2.2.2.2, st, tb', te, rq, sm', pa', ip)) :
    ∃ n, wX_variable_25 post (nI v) (nI w) (nI (3 * w)) (nI N.1) (nI tc) (nI ec) (nI rc) n 0 N.2.1 N.2.2.1 N.2.2.2.1 N.2.2.2.2 st tb te rq sm pa ip := by
  have hw := hN.1
  refine loop_0 (fun n i s => wX_variable_25 post (nI v) (nI w) (nI (3 * w)) (nI N.1) (nI tc) (nI ec) (nI rc) n (nI i) N.2.1 N.2.2.1 N.2.2.2.1 N.2.2.2.2 st tb te rq s pa ip)
    (fun i s => ∀ j, j < i → bz_ed w N (s j) (fun x => (x / 2 ^ (w * (2 - v)) % 2 ^ w).testBit j)) w sm (fun j h => by omega)
    (fun n s h => br_t (nI_le (Nat.le_refl _) (by omega)) (bz_kfin htc (bz_X_rf hN) (by omega) h K)) (fun n i s hi h ih => ?_)
  refine br_f (nI_ge hi (by omega)) ⟨vp_in_nI (by omega) (by omega), ?_⟩
  rw [bz_vix hi, nI_clamp (n := i) (by omega)]
  exact nm_e (nm_r (nI_1 i) (ih _ (bz_fe (F := fun j x => (x / 2 ^ (w * (2 - v)) % 2 ^ w).testBit j) h (bz_ved hN hv hi))))
theorem bz_xcon {c : Int32} (hN : bz_NI w N) (htc : tc < 28)
    (K : ∀ N' tb' sm' pa', bz_nw w tc N N' tb tb' (fun _ => c.toBitVec.toNat % 2 ^ w) → post (nI tc) (nI w, nI (3 * w), nI N'.1, nI (tc + 1), nI ec, nI rc, N'.2.1, N'.2.2.1, N'.2.2.2.1, N'.2.2.2.2, st, tb', te, rq, sm', pa', ip)) :
    ∃ n, wX_constant_14 post c (nI w) (nI (3 * w)) (nI N.1) (nI tc) (nI ec) (nI rc) n 0 N.2.1 N.2.2.1 N.2.2.2.1 N.2.2.2.2 st tb te rq sm pa ip := by
  have hw := hN.1
  refine loop_0 (fun n i s => wX_constant_14 post c (nI w) (nI (3 * w)) (nI N.1) (nI tc) (nI ec) (nI rc) n (nI i) N.2.1 N.2.2.1 N.2.2.2.1 N.2.2.2.2 st tb te rq s pa ip)
    (fun i s => ∀ j, j < i → bz_ed w N (s j) (fun _ => (c.toBitVec.toNat % 2 ^ w).testBit j)) w sm (fun j h => by omega)
    (fun n s h => br_t (nI_le (Nat.le_refl _) (by omega)) (bz_kfin htc (bz_X_rf hN) (by omega) h K)) (fun n i s hi h ih => ?_)
  refine br_f (nI_ge hi (by omega)) ⟨vp_in_nI (by omega) (by omega), ?_⟩
  rw [bz_cbit c hw.2 hi, nI_clamp (n := i) (by omega)]
  exact nm_e (nm_r (nI_1 i) (ih _ (bz_fe (F := fun j _ => (c.toBitVec.toNat % 2 ^ w).testBit j) h (bz_ed_I _))))
theorem bz_xinv (hN : bz_NI w N) (htc : tc < 28) (ha : a < 28) (hv : ∀ x, V a x < 2 ^ w) (hA : ∀ j, j < w → bz_ed w N (tb (4 * a + j)) (fun x => (V a x).testBit j))
    (K : ∀ N' tb' sm' pa', bz_nw w tc N N' tb tb' (fun x => 2 ^ w - (V a x + 1)) → post (nI tc) (nI w, nI (3 * w), nI N'.1, nI (tc + 1), nI ec, nI rc, N'.2.1, N'.2.2.1, N'.2.2.2.1, N'.2.2.2.2, st, tb', te, rq, sm', pa', ip)) :
    ∃ n, wX_invert_25 post (nI a) (nI w) (nI (3 * w)) (nI N.1) (nI tc) (nI ec) (nI rc) n 0 N.2.1 N.2.2.1 N.2.2.2.1 N.2.2.2.2 st tb te rq sm pa ip := by
  have hw := hN.1
  refine loop_0 (fun n i s => wX_invert_25 post (nI a) (nI w) (nI (3 * w)) (nI N.1) (nI tc) (nI ec) (nI rc) n (nI i) N.2.1 N.2.2.1 N.2.2.2.1 N.2.2.2.2 st tb te rq s pa ip)
    (fun i s => ∀ j, j < i → bz_ed w N (s j) (fun x => (2 ^ w - (V a x + 1)).testBit j)) w sm (fun j h => by omega)
    (fun n s h => br_t (nI_le (Nat.le_refl _) (by omega)) (bz_kfin htc (bz_X_rf hN) (by omega) h K)) (fun n i s hi h ih => ?_)
  refine br_f (nI_ge hi (by omega)) ?_
  rw [bz_ix, nI_clamp (n := 4 * a + i) (by omega), nI_clamp (n := i) (by omega)]
  refine ⟨vp_in_nI (by omega) (by omega), vp_in_nI (by omega) (by omega), nm_e (nm_r (nI_1 i) (ih _ (bz_fe (F := fun j x => (2 ^ w - (V a x + 1)).testBit j) h (bz_ed_eq (bz_ed_not (hA i hi)) (fun x => ?_)))))⟩
  rw [Nat.testBit_two_pow_sub_succ (hv x), decide_eq_true hi, Bool.true_and]
theorem bz_xshl {c : Nat} (hN : bz_NI w N) (htc : tc < 28) (ha : a < 28) (hc : c ≤ 4) (hA : ∀ j, j < w → bz_ed w N (tb (4 * a + j)) (fun x => (V a x).testBit j))
    (K : ∀ N' tb' sm' pa', bz_nw w tc N N' tb tb' (fun x => V a x * 2 ^ c % 2 ^ w) → post (nI tc) (nI w, nI (3 * w), nI N'.1, nI (tc + 1), nI ec, nI rc, N'.2.1, N'.2.2.1, N'.2.2.2.1, N'.2.2.2.2, st, tb', te, rq, sm', pa', ip)) :
    ∃ n, wX_shift_38 post (nI a) (nI c) (nI w) (nI (3 * w)) (nI N.1) (nI tc) (nI ec) (nI rc) n 0 N.2.1 N.2.2.1 N.2.2.2.1 N.2.2.2.2 st tb te rq sm pa ip := by
  have hw := hN.1
  refine loop_0 (fun n i s => wX_shift_38 post (nI a) (nI c) (nI w) (nI (3 * w)) (nI N.1) (nI tc) (nI ec) (nI rc) n (nI i) N.2.1 N.2.2.1 N.2.2.2.1 N.2.2.2.2 st tb te rq s pa ip)
    (fun i s => ∀ j, j < i → bz_ed w N (s j) (fun x => (V a x * 2 ^ c % 2 ^ w).testBit j)) w sm (fun j h => by omega)
    (fun n s h => br_t (nI_le (Nat.le_refl _) (by omega)) (bz_kfin htc (bz_X_rf hN) (by omega) h K)) (fun n i s hi h ih => ?_)
  refine br_f (nI_ge hi (by omega)) ?_
  have hi4 : vp_in (nI i) 4 := vp_in_nI (by omega) (by omega)
  by_cases q : i < c
  · refine nm_e (br_t (pk_sneg (by omega) q) ⟨hi4, ?_⟩)
    rw [nI_clamp (n := i) (by omega)]
    refine nm_e (nm_r (nI_1 i) (ih _ (bz_fe (F := fun j x => (V a x * 2 ^ c % 2 ^ w).testBit j) h (bz_ed_eq bz_ed_0 (fun x => ?_)))))
    rw [Nat.testBit_mod_two_pow, Nat.testBit_mul_two_pow, decide_eq_false (p := c ≤ i) (by omega), Bool.false_and, Bool.and_false]
  · refine nm_r (pk_sub (by omega)) (br_f (nI_pos (by omega)) (br_f (nI_ge (by omega) (by omega)) ?_))
    rw [bz_ix, nI_clamp (n := 4 * a + (i - c)) (by omega), nI_clamp (n := i) (by omega)]
    refine ⟨vp_in_nI (by omega) (by omega), hi4, nm_e (nm_r (nI_1 i) (ih _ (bz_fe (F := fun j x => (V a x * 2 ^ c % 2 ^ w).testBit j) h (bz_ed_eq (hA (i - c) (by omega)) (fun x => ?_)))))⟩
    rw [Nat.testBit_mod_two_pow, Nat.testBit_mul_two_pow, decide_eq_true (p := c ≤ i) (by omega), decide_eq_true hi, Bool.true_and, Bool.true_and]
theorem bz_xshr {c : Nat} (hN : bz_NI w N) (htc : tc < 28) (ha : a < 28) (hc : c ≤ 4) (hv : ∀ x, V a x < 2 ^ w) (hA : ∀ j, j < w → bz_ed w N (tb (4 * a + j)) (fun x => (V a x).testBit j))
    (K : ∀ N' tb' sm' pa', bz_nw w tc N N' tb tb' (fun x => V a x / 2 ^ c) → post (nI tc) (nI w, nI (3 * w), nI N'.1, nI (tc + 1), nI ec, nI rc, N'.2.1, N'.2.2.1, N'.2.2.2.1, N'.2.2.2.2, st, tb', te, rq, sm', pa', ip)) :
    ∃ n, wX_shift_38 post (nI a) (-nI c) (nI w) (nI (3 * w)) (nI N.1) (nI tc) (nI ec) (nI rc) n 0 N.2.1 N.2.2.1 N.2.2.2.1 N.2.2.2.2 st tb te rq sm pa ip := by
  have hw := hN.1
  refine loop_0 (fun n i s => wX_shift_38 post (nI a) (-nI c) (nI w) (nI (3 * w)) (nI N.1) (nI tc) (nI ec) (nI rc) n (nI i) N.2.1 N.2.2.1 N.2.2.2.1 N.2.2.2.2 st tb te rq s pa ip)
    (fun i s => ∀ j, j < i → bz_ed w N (s j) (fun x => (V a x / 2 ^ c).testBit j)) w sm (fun j h => by omega)
    (fun n s h => br_t (nI_le (Nat.le_refl _) (by omega)) (bz_kfin htc (bz_X_rf hN) (by omega) h K)) (fun n i s hi h ih => ?_)
  refine br_f (nI_ge hi (by omega)) ?_
  have hi4 : vp_in (nI i) 4 := vp_in_nI (by omega) (by omega)
  have e : nI i - -nI c = nI (i + c) := by rw [Int32.sub_neg, nI_add]
  refine nm_r e (br_f (nI_pos (by omega)) ?_)
  by_cases q : w ≤ i + c
  · refine br_t (nI_le q (by omega)) ⟨hi4, ?_⟩
    rw [nI_clamp (n := i) (by omega)]
    refine nm_e (nm_r (nI_1 i) (ih _ (bz_fe (F := fun j x => (V a x / 2 ^ c).testBit j) h (bz_ed_eq bz_ed_0 (fun x => ?_)))))
    rw [Nat.testBit_div_two_pow]
    exact (Nat.testBit_lt_two_pow (Nat.lt_of_lt_of_le (hv x) (Nat.pow_le_pow_right (by decide) q))).symm
  · refine br_f (nI_ge (by omega) (by omega)) ?_
    rw [bz_ix, nI_clamp (n := 4 * a + (i + c)) (by omega), nI_clamp (n := i) (by omega)]
    refine ⟨vp_in_nI (by omega) (by omega), hi4, nm_e (nm_r (nI_1 i) (ih _ (bz_fe (F := fun j x => (V a x / 2 ^ c).testBit j) h (bz_ed_eq (hA (i + c) (by omega)) (fun x => ?_)))))⟩
    rw [Nat.testBit_div_two_pow]
theorem bz_xcho44 {T : Nat → Nat → Bool} {t : Nat} (ht : t < 16) (htc : tc < 28) (ha : a < 28) (hb : b < 28) : ∀ (m i n : Nat) (N : bz_T) (sm : Nat → Int32), i + m = w → m < n → bz_NI w N → N.1 + 3 * m ≤ 6000 →
    bz_ed w N (te t) (T t) →
    (∀ j, j < w → bz_ed w N (tb (4 * a + j)) (fun x => (V a x).testBit j)) → (∀ j, j < w → bz_ed w N (tb (4 * b + j)) (fun x => (V b x).testBit j)) →
    (∀ j, j < i → bz_ed w N (sm j) (fun x => (if T t x = true then V a x else V b x).testBit j)) →
    (∀ N' tb' sm' pa', bz_X w N N' → N'.1 ≤ N.1 + 3 * m → (∀ j, j < w → bz_ed w N' (tb' (4 * tc + j)) (fun x => (if T t x = true then V a x else V b x).testBit j)) → (∀ m, m < 4 * tc → tb' m = tb m) →
      post (nI tc) (nI w, nI (3 * w), nI N'.1, nI (tc + 1), nI ec, nI rc, N'.2.1, N'.2.2.1, N'.2.2.2.1, N'.2.2.2.2, st, tb', te, rq, sm', pa', ip)) →
    wX_choose_44 post (nI t) (nI a) (nI b) n (nI i) (nI w) (nI (3 * w)) (nI N.1) (nI tc) (nI ec) (nI rc) N.2.1 N.2.2.1 N.2.2.2.1 N.2.2.2.2 st tb te rq sm pa ip := by
  intro m
  induction m with
  | zero =>
    intro i n N sm hi hn hN _ _ _ _ hs K
    obtain ⟨n, rfl⟩ : ∃ q, n = q + 1 := ⟨n - 1, by omega⟩
    have e : i = w := by omega
    subst e
    have hw := hN.1
    refine br_t (nI_le (Nat.le_refl _) (by omega)) ?_
    exact bz_keep htc hw.2 (fun tb' h1 h2 => K N tb' sm pa (bz_X_rf hN) (by omega) (fun j hj => by rw [h1 j hj]; exact hs j hj) h2)
  | succ m ih =>
    intro i n N sm hi hn hN hG hT hA hB hs K
    obtain ⟨n, rfl⟩ : ∃ q, n = q + 1 := ⟨n - 1, by omega⟩
    have hw := hN.1
    refine br_f (nI_ge (by omega) (by omega)) ?_
    rw [bz_ix, bz_ix, nI_clamp (n := 4 * a + i) (by omega), nI_clamp (n := 4 * b + i) (by omega), nI_clamp (n := t) (by omega), nI_clamp (n := i) (by omega)]
    refine ⟨vp_in_nI (by omega) (by omega), vp_in_nI (by omega) (by omega), vp_in_nI (by omega) (by omega), ?_⟩
    refine bz_either hN (by omega) hT (hA i (by omega)) (hB i (by omega)) (fun N1 v1 e1 g1 d1 => ⟨vp_in_nI (by omega) (by omega), nm_e (nm_r (nI_1 i) ?_)⟩)
    refine ih (i + 1) n N1 _ (by omega) (by omega) e1.1 (by omega) (bz_ed_X e1 hT) (fun j hj => bz_ed_X e1 (hA j hj)) (fun j hj => bz_ed_X e1 (hB j hj))
      (bz_fe (F := fun j x => (if T t x = true then V a x else V b x).testBit j) (fun j hj => bz_ed_X e1 (hs j hj)) (bz_ed_eq d1 (fun x => ?_)))
      (fun N' tb' sm' pa' h1 h2 h3 h4 => K N' tb' sm' pa' (bz_X_tr e1 h1) (by omega) h3 h4)
    cases T t x <;> rfl
/-- the bits of and, or, xor -/
def bz_bo (k p q : Nat) : Nat := if k = 3 then p &&& q else if k = 4 then p ||| q else p ^^^ q
theorem bz_bwk {k : Nat} {u v : Int32} {f g : Nat → Nat} {i : Nat} (hk : 3 ≤ k) (hk2 : k ≤ 5) (hN : bz_NI w N) (hG : N.1 + 3 ≤ 6000)
    (hu : bz_ed w N u (fun x => (f x).testBit i)) (hv : bz_ed w N v (fun x => (g x).testBit i))
    (K : ∀ N' v, bz_X w N N' → N'.1 ≤ N.1 + 3 → bz_ed w N' v (fun x => (bz_bo k (f x) (g x)).testBit i) → post v (nI w, nI (3 * w), nI N'.1, nI tc, nI ec, nI rc, N'.2.1, N'.2.2.1, N'.2.2.2.1, N'.2.2.2.2, st, tb, te, rq, sm, pa, ip)) :
    wpX_bitwise post (nI w, nI (3 * w), nI N.1, nI tc, nI ec, nI rc, N.2.1, N.2.2.1, N.2.2.2.1, N.2.2.2.2, st, tb, te, rq, sm, pa, ip) (nI k) u v := by
  have : k = 3 ∨ k = 4 ∨ k = 5 := by omega
  rcases this with rfl | rfl | rfl
  · exact bz_bw3 hN (by omega) hu hv (fun N' v h1 h2 h3 => K N' v h1 (by omega) (bz_ed_eq h3 (fun x => (Nat.testBit_and ..).symm)))
  · exact bz_bw4 hN (by omega) hu hv (fun N' v h1 h2 h3 => K N' v h1 (by omega) (bz_ed_eq h3 (fun x => (Nat.testBit_or ..).symm)))
  · exact bz_bw5 hN (by omega) hu hv (fun N' v h1 h2 h3 => K N' v h1 (by omega) (bz_ed_eq h3 (fun x => (Nat.testBit_xor ..).symm)))
theorem bz_xbit137 {k : Nat} (hk : 3 ≤ k) (hk2 : k ≤ 5) (htc : tc < 28) (ha : a < 28) (hb : b < 28) : ∀ (m i n : Nat) (N : bz_T) (sm : Nat → Int32), i + m = w → m < n → bz_NI w N → N.1 + 3 * m ≤ 6000 →
    (∀ j, j < w → bz_ed w N (tb (4 * a + j)) (fun x => (V a x).testBit j)) → (∀ j, j < w → bz_ed w N (tb (4 * b + j)) (fun x => (V b x).testBit j)) →
    (∀ j, j < i → bz_ed w N (sm j) (fun x => (bz_bo k (V a x) (V b x)).testBit j)) →
    (∀ N' tb' sm' pa', bz_X w N N' → N'.1 ≤ N.1 + 3 * m → (∀ j, j < w → bz_ed w N' (tb' (4 * tc + j)) (fun x => (bz_bo k (V a x) (V b x)).testBit j)) → (∀ m, m < 4 * tc → tb' m = tb m) →
      post (nI tc) (nI w, nI (3 * w), nI N'.1, nI (tc + 1), nI ec, nI rc, N'.2.1, N'.2.2.1, N'.2.2.2.1, N'.2.2.2.2, st, tb', te, rq, sm', pa', ip)) →
    wX_combine_137 post (nI k) (nI a) (nI b) n (nI i) (nI w) (nI (3 * w)) (nI N.1) (nI tc) (nI ec) (nI rc) N.2.1 N.2.2.1 N.2.2.2.1 N.2.2.2.2 st tb te rq sm pa ip := by
  intro m
  induction m with
  | zero =>
    intro i n N sm hi hn hN _ _ _ hs K
    obtain ⟨n, rfl⟩ : ∃ q, n = q + 1 := ⟨n - 1, by omega⟩
    have e : i = w := by omega
    subst e
    have hw := hN.1
    refine br_t (nI_le (Nat.le_refl _) (by omega)) ?_
    exact bz_keep htc hw.2 (fun tb' h1 h2 => K N tb' sm pa (bz_X_rf hN) (by omega) (fun j hj => by rw [h1 j hj]; exact hs j hj) h2)
  | succ m ih =>
    intro i n N sm hi hn hN hG hA hB hs K
    obtain ⟨n, rfl⟩ : ∃ q, n = q + 1 := ⟨n - 1, by omega⟩
    have hw := hN.1
    refine br_f (nI_ge (by omega) (by omega)) ?_
    rw [bz_ix, bz_ix, nI_clamp (n := 4 * a + i) (by omega), nI_clamp (n := 4 * b + i) (by omega), nI_clamp (n := i) (by omega)]
    refine ⟨vp_in_nI (by omega) (by omega), vp_in_nI (by omega) (by omega), ?_⟩
    refine bz_bwk hk hk2 hN (by omega) (hA i (by omega)) (hB i (by omega)) (fun N1 v1 e1 g1 d1 => ⟨vp_in_nI (by omega) (by omega), nm_e (nm_r (nI_1 i) ?_)⟩)
    exact ih (i + 1) n N1 _ (by omega) (by omega) e1.1 (by omega) (fun j hj => bz_ed_X e1 (hA j hj)) (fun j hj => bz_ed_X e1 (hB j hj))
      (bz_fe (F := fun j x => (bz_bo k (V a x) (V b x)).testBit j) (fun j hj => bz_ed_X e1 (hs j hj)) d1)
      (fun N' tb' sm' pa' h1 h2 h3 h4 => K N' tb' sm' pa' (bz_X_tr e1 h1) (by omega) h3 h4)
theorem bz_tbv {v w : Nat} (hv : v < 2 ^ w) : bz_bv (fun j => v.testBit j) w = v := bz_bv_uq hv (fun _ _ => rfl)
/-- sum (kind 0) and difference (kind 1) -/
theorem bz_xas {sb : Bool} (hN : bz_NI w N) (hG : N.1 + 36 ≤ 6000) (htc : tc < 28) (ha : a < 28) (hb : b < 28) (hva : ∀ x, V a x < 2 ^ w) (hvb : ∀ x, V b x < 2 ^ w)
    (hA : ∀ j, j < w → bz_ed w N (tb (4 * a + j)) (fun x => (V a x).testBit j)) (hB : ∀ j, j < w → bz_ed w N (tb (4 * b + j)) (fun x => (V b x).testBit j))
    (K : ∀ N' tb' sm' pa', bz_nw w tc N N' tb tb' (fun x => (V a x + (if sb = true then 2 ^ w - V b x else V b x)) % 2 ^ w) → post (nI tc) (nI w, nI (3 * w), nI N'.1, nI (tc + 1), nI ec, nI rc, N'.2.1, N'.2.2.1, N'.2.2.2.1, N'.2.2.2.2, st, tb', te, rq, sm', pa', ip)) :
    wX_combine_51 post (bz_I sb) (nI a) (nI b) (nI w) (nI (3 * w)) (nI N.1) (nI tc) (nI ec) (nI rc) N.2.1 N.2.2.1 N.2.2.2.1 N.2.2.2.2 st tb te rq sm pa ip := by
  have hw := hN.1
  refine bz_take ha hw.2 (fun sm1 hs1 => ?_)
  refine loop_0 (fun n i s => wX_combine_59 post (bz_I sb) (nI b) (nI w) (nI (3 * w)) (nI N.1) (nI tc) (nI ec) (nI rc) n (nI i) N.2.1 N.2.2.1 N.2.2.2.1 N.2.2.2.2 st tb te rq sm1 s ip)
    (fun i s => ∀ j, j < i → bz_ed w N (s j) (fun x => (V b x).testBit j ^^ sb)) w pa (fun j h => by omega)
    (fun n s h => ?_) (fun n i s hi h ih => ?_)
  · refine br_t (nI_le (Nat.le_refl _) (by omega)) ?_
    have key : ∀ c, c = bz_I sb → wX_combine_114 post c (nI w) (nI (3 * w)) (nI N.1) (nI tc) (nI ec) (nI rc) N.2.1 N.2.2.1 N.2.2.2.1 N.2.2.2.2 st tb te rq sm1 s ip := by
      intro c hc
      subst hc
      refine bz_addP hN hG h (fun j hj => by rw [hs1 j hj]; exact hA j hj) (bz_ed_I sb) (fun N' sm' e1 g1 d1 => ?_)
      refine bz_kfin htc e1 (by omega) (fun j hj => bz_ed_eq (d1 j hj) (fun x => ?_)) K
      have hm := bz_addm (fun j => (V a x).testBit j) (fun j => (V b x).testBit j ^^ sb) sb w
      have ht := bz_bv_tb (bz_so (fun j => (V a x).testBit j) (fun j => (V b x).testBit j ^^ sb) sb) hj
      rw [← ht, hm, bz_tbv (hva x)]
      have e : (bz_bv (fun j => (V b x).testBit j ^^ sb) w + sb.toNat) = (if sb = true then 2 ^ w - V b x else V b x) := by
        cases sb with
        | false =>
          rw [show (fun j => (V b x).testBit j ^^ false) = (fun j => (V b x).testBit j) from funext (fun j => Bool.xor_false _), bz_tbv (hvb x)]
          rfl
        | true =>
          rw [show (fun j => (V b x).testBit j ^^ true) = (fun j => !(V b x).testBit j) from funext (fun j => Bool.xor_true _)]
          have := bz_notv (fun j => (V b x).testBit j) w
          rw [bz_tbv (hvb x)] at this
          show _ + 1 = 2 ^ w - V b x
          omega
      rw [Nat.add_assoc, e]
    cases sb with
    | false => exact br_f (by decide) (key 0 rfl)
    | true => exact br_t rfl (key 1 rfl)
  · refine br_f (nI_ge hi (by omega)) ?_
    rw [bz_ix, nI_clamp (n := 4 * b + i) (by omega), nI_clamp (n := i) (by omega)]
    refine ⟨vp_in_nI (by omega) (by omega), ?_⟩
    cases sb with
    | false =>
      refine br_f (by decide) ⟨vp_in_nI (by omega) (by omega), nm_e (nm_r (nI_1 i) (ih _ (bz_fe (F := fun j x => (V b x).testBit j ^^ false) h ?_)))⟩
      rw [Int32.xor_zero]
      exact bz_ed_eq (hB i hi) (fun x => (Bool.xor_false _).symm)
    | true =>
      refine br_t rfl ⟨vp_in_nI (by omega) (by omega), nm_e (nm_r (nI_1 i) (ih _ (bz_fe (F := fun j x => (V b x).testBit j ^^ true) h ?_)))⟩
      exact bz_ed_eq (bz_ed_not (hB i hi)) (fun x => (Bool.xor_true _).symm)
theorem bz_xmul (hN : bz_NI w N) (hG : N.1 + 160 ≤ 6000) (htc : tc < 28) (ha : a < 28) (hb : b < 28) (hva : ∀ x, V a x < 2 ^ w) (hvb : ∀ x, V b x < 2 ^ w)
    (hA : ∀ j, j < w → bz_ed w N (tb (4 * a + j)) (fun x => (V a x).testBit j)) (hB : ∀ j, j < w → bz_ed w N (tb (4 * b + j)) (fun x => (V b x).testBit j))
    (K : ∀ N' tb' sm' pa', bz_nw w tc N N' tb tb' (fun x => (V a x * V b x) % 2 ^ w) → post (nI tc) (nI w, nI (3 * w), nI N'.1, nI (tc + 1), nI ec, nI rc, N'.2.1, N'.2.2.1, N'.2.2.2.1, N'.2.2.2.2, st, tb', te, rq, sm', pa', ip)) :
    wpX_multiply (fun u => match u with | (f_w, f_inputs, f_gates, f_termCount, f_testCount, f_requiredCount, a_left, a_right, a_chain, a_bucket, a_state, a_termBits, a_testEdge, a_required, a_sum, a_part, a_input) => (wX_combine_186 post f_w f_inputs f_gates f_termCount f_testCount f_requiredCount a_left a_right a_chain a_bucket a_state a_termBits a_testEdge a_required a_sum a_part a_input)) (nI w, nI (3 * w), nI N.1, nI tc, nI ec, nI rc, N.2.1, N.2.2.1, N.2.2.2.1, N.2.2.2.2, st, tb, te, rq, sm, pa, ip) (nI a) (nI b) := by
  refine bz_mult ha hb hN hG hA hB (fun N' sm' pa' e1 g1 d1 => ?_)
  refine bz_kfin htc e1 (by omega) (fun j hj => bz_ed_eq (d1 j hj) (fun x => ?_)) K
  have hm := bz_muv (fun j => (V a x).testBit j) (fun j => (V b x).testBit j) w w
  have ht := bz_bv_tb (bz_mu (fun j => (V a x).testBit j) (fun j => (V b x).testBit j) w) hj
  rw [← ht, hm, bz_tbv (hva x), bz_tbv (hvb x), Nat.mul_comm]
end
end
section
/-! simulate, seen -/
def bz_tri (v : Int32) : Prop := v = 0 ∨ v = 1 ∨ v = 2
def bz_cmp (w : Nat) (ip : Nat → Int32) (x : Nat) : Prop := ∀ k, k < 3 * w → ip k = 2 ∨ ip k = bz_I (x.testBit (3 * w - 1 - k))
def bz_full (w : Nat) (ip : Nat → Int32) : Prop := ∀ k, k < 3 * w → ip k ≠ 2
def bz_ti (w : Nat) (ip : Nat → Int32) : Prop := ∀ k, k < 3 * w → bz_tri (ip k)
/-- v is what can be told of a gate whose value under s is b s -/
def bz_V (w : Nat) (N : bz_T) (ip : Nat → Int32) (v : Int32) (b : (Nat → Bool) → Bool) : Prop :=
  bz_tri v ∧ (∀ x s, bz_con w N x s → bz_cmp w ip x → v = 2 ∨ v = bz_I (b s)) ∧ (bz_full w ip → v ≠ 2)
def bz_S (w : Nat) (N : bz_T) (ip st : Nat → Int32) : Prop := ∀ g, bz_vg w N.1 g → bz_V w N ip (st g) (fun s => s g)
theorem bz_nar {v : Int32} (h : bz_tri v) : vp_nar .byte v.toInt8.toInt32 = v := by
  rcases h with rfl | rfl | rfl <;> (rw [vp_nar_byte]; decide)
theorem bz_nar0 : vp_nar .byte 0 = 0 := by rw [vp_nar_byte]; decide
theorem bz_xb (b : Bool) (e : Nat) : bz_I b ^^^ (nI e &&& 1) = bz_I (b ^^ decide (e % 2 = 1)) := by
  have h1 : nI e &&& 1 = nI (e % 2) := by
    show nI e &&& nI 1 = _
    rw [nx_and, Nat.and_one_is_mod]
  rw [h1]
  rcases Nat.mod_two_eq_zero_or_one e with h | h <;> rw [h] <;> cases b <;> decide
theorem bz_I_t2 (b : Bool) : bz_I b ≠ 2 := by cases b <;> decide
theorem bz_I_tri (b : Bool) : bz_tri (bz_I b) := by
  cases b
  · exact Or.inl rfl
  · exact Or.inr (Or.inl rfl)
theorem bz_I_01 {v : Int32} (h : bz_tri v) (h2 : v ≠ 2) : ∃ b, v = bz_I b := by
  rcases h with rfl | rfl | rfl
  · exact ⟨false, rfl⟩
  · exact ⟨true, rfl⟩
  · exact absurd rfl h2
section
variable {w tc ec rc : Nat} {N : bz_T} {st tb te rq sm pa ip : Nat → Int32}
theorem bz_seen0 {post : Int32 → Prop} {e : Nat} {M : bz_T} (he : e / 2 < 6000) (hV : bz_V w M ip (st (e / 2)) (fun s => s (e / 2)))
    (K : ∀ v, bz_V w M ip v (fun s => bz_eb s e) → post v) : wpX_seen post (nI w, nI (3 * w), nI N.1, nI tc, nI ec, nI rc, N.2.1, N.2.2.1, N.2.2.2.1, N.2.2.2.2, st, tb, te, rq, sm, pa, ip) (nI e) := by
  have hs : nI e >>> ((1 : Int32) &&& 31) = nI (e / 2) := by
    rw [pk_shrN (by omega) _ 1 (by decide), Nat.pow_one]
  have hi : vp_in (nI e >>> ((1 : Int32) &&& 31)) 6000 := by
    rw [hs]; exact vp_in_nI he (by omega)
  have hst : st (nI e >>> ((1 : Int32) &&& 31)).toNatClampNeg = st (e / 2) := by
    rw [hs, nI_clamp (by omega)]
  refine ⟨hi, nm_r hst (br_c (fun h2 => K 2 ⟨Or.inr (Or.inr rfl), fun _ _ _ _ => Or.inl rfl, fun hf => absurd h2 (hV.2.2 hf)⟩) (fun h2 => ?_))⟩
  obtain ⟨b, hb⟩ := bz_I_01 hV.1 h2
  rw [hb, bz_xb]
  refine K _ ⟨bz_I_tri _, fun x s c hc => Or.inr ?_, fun _ => bz_I_t2 _⟩
  rcases hV.2.1 x s c hc with q | q
  · exact absurd q h2
  · rw [hb] at q
    rw [bz_I_inj q]; rfl
/-- and of two values -/
theorem bz_V_and {M M' : bz_T} {u v r : Int32} {a b c : (Nat → Bool) → Bool} (hu : bz_V w M ip u a) (hv : bz_V w M ip v b)
    (hc : ∀ x s, bz_con w M' x s → bz_con w M x s ∧ c s = (a s && b s))
    (hr : (r = 0 ∧ (u = 0 ∨ v = 0)) ∨ (r = 1 ∧ u = 1 ∧ v = 1) ∨ (r = 2 ∧ (u = 2 ∨ v = 2))) : bz_V w M' ip r c := by
  rcases hr with ⟨rfl, h⟩ | ⟨rfl, rfl, rfl⟩ | ⟨rfl, h⟩
  · refine ⟨Or.inl rfl, fun x s k hx => Or.inr ?_, fun _ => by decide⟩
    obtain ⟨h1, h2⟩ := hc x s k
    rw [h2]
    rcases h with rfl | rfl
    · rcases hu.2.1 x s h1 hx with q | q
      · exact absurd q (by decide)
      · have : a s = false := bz_I_inj (b := false) q.symm
        rw [this]; rfl
    · rcases hv.2.1 x s h1 hx with q | q
      · exact absurd q (by decide)
      · have : b s = false := bz_I_inj (b := false) q.symm
        rw [this, Bool.and_false]; rfl
  · refine ⟨Or.inr (Or.inl rfl), fun x s k hx => Or.inr ?_, fun _ => by decide⟩
    obtain ⟨h1, h2⟩ := hc x s k
    rw [h2]
    rcases hu.2.1 x s h1 hx with q | q
    · exact absurd q (by decide)
    · rcases hv.2.1 x s h1 hx with q' | q'
      · exact absurd q' (by decide)
      · rw [bz_I_inj (a := a s) (b := true) q.symm, bz_I_inj (a := b s) (b := true) q'.symm]; rfl
  · refine ⟨Or.inr (Or.inr rfl), fun _ _ _ _ => Or.inl rfl, fun hf => ?_⟩
    rcases h with rfl | rfl
    · exact absurd rfl (hu.2.2 hf)
    · exact absurd rfl (hv.2.2 hf)
theorem bz_con_tr {G m x : Nat} {R : (Nat → Int32) × (Nat → Int32) × (Nat → Int32) × (Nat → Int32)} {s : Nat → Bool} (h : m ≤ G) (c : bz_con w (G, R) x s) : bz_con w (m, R) x s :=
  ⟨c.1, c.2.1, fun g h1 h2 => c.2.2 g h1 (Nat.lt_of_lt_of_le h2 h)⟩
variable {post : SX → Prop}
theorem bz_sim41 (hN : bz_NI w N) (K : ∀ st', bz_S w N ip st' → post (nI w, nI (3 * w), nI N.1, nI tc, nI ec, nI rc, N.2.1, N.2.2.1, N.2.2.2.1, N.2.2.2.2, st', tb, te, rq, sm, pa, ip)) : ∀ (m i n : Nat) (st : Nat → Int32), i + m = N.1 → 13 ≤ i → m < n → bz_S w (i, N.2) ip st →
    wX_simulate_41 post (nI w) (nI (3 * w)) (nI N.1) (nI tc) (nI ec) (nI rc) n (nI i) N.2.1 N.2.2.1 N.2.2.2.1 N.2.2.2.2 st tb te rq sm pa ip := by
  intro m
  induction m with
  | zero =>
    intro i n st hi h13 hn hS
    obtain ⟨n, rfl⟩ : ∃ q, n = q + 1 := ⟨n - 1, by omega⟩
    have e : i = N.1 := by omega
    subst e
    have hb := hN.2.1
    exact br_t (nI_le (Nat.le_refl _) (by omega)) (K st hS)
  | succ m ih =>
    intro i n st hi h13 hn hS
    obtain ⟨n, rfl⟩ : ∃ q, n = q + 1 := ⟨n - 1, by omega⟩
    have hb := hN.2.1
    have hw := hN.1
    have hv : vp_in (nI i) 6000 := vp_in_nI (by omega) (by omega)
    obtain ⟨⟨a, ea, va⟩, ⟨b, eb, vb⟩⟩ := hN.2.2.1 i h13 (by omega)
    have la : a / 2 < 6000 := by unfold bz_vg at va; omega
    have lb : b / 2 < 6000 := by unfold bz_vg at vb; omega
    refine br_f (nI_ge (by omega) (by omega)) ⟨hv, ?_⟩
    rw [nI_clamp (n := i) (by omega), ea, eb]
    refine bz_seen0 (M := (i, N.2)) la (hS _ va) (fun u hu => ⟨hv, bz_seen0 (M := (i, N.2)) lb (hS _ vb) (fun v hv2 => ?_)⟩)
    have fin : ∀ r : Int32, ((r = 0 ∧ (u = 0 ∨ v = 0)) ∨ (r = 1 ∧ u = 1 ∧ v = 1) ∨ (r = 2 ∧ (u = 2 ∨ v = 2))) →
        wX_simulate_101 post (wX_simulate_41 post (nI w) (nI (3 * w)) (nI N.1) (nI tc) (nI ec) (nI rc) n) (nI i) r (nI w) (nI (3 * w)) (nI N.1) (nI tc) (nI ec) (nI rc) N.2.1 N.2.2.1 N.2.2.2.1 N.2.2.2.2 st tb te rq sm pa ip := by
      intro r hr
      have tr : bz_tri r := by
        rcases hr with ⟨h, _⟩ | ⟨h, _⟩ | ⟨h, _⟩
        · exact Or.inl h
        · exact Or.inr (Or.inl h)
        · exact Or.inr (Or.inr h)
      refine ⟨hv, ?_⟩
      rw [bz_nar tr, nI_clamp (n := i) (by omega)]
      refine nm_e (nm_r (nI_1 i) (ih (i + 1) n _ (by omega) (by omega) (by omega) ?_))
      intro g hg
      by_cases q : g = i
      · subst q
        rw [pk_us]
        refine bz_V_and (M := (g, N.2)) (M' := (g + 1, N.2)) hu hv2 (fun x s c => ⟨bz_con_tr (Nat.le_succ g) c, ?_⟩) hr
        have := c.2.2 g h13 (Nat.lt_succ_self g)
        dsimp only at this ⊢
        rw [this, ea, eb, nI_clamp (by omega), nI_clamp (by omega)]
      · rw [pk_un q]
        have hg2 : bz_vg w i g := by unfold bz_vg at *; omega
        have h := hS g hg2
        exact ⟨h.1, fun x s c hx => h.2.1 x s (bz_con_tr (Nat.le_succ i) c) hx, h.2.2⟩
    refine br_c (fun h => fin 0 (Or.inl ⟨rfl, Or.inl h⟩)) (fun hu0 => br_c (fun h => fin 0 (Or.inl ⟨rfl, Or.inr h⟩)) (fun hv0 => br_c (fun hu1 => br_c (fun hv1 => fin 1 (Or.inr (Or.inl ⟨rfl, hu1, hv1⟩))) (fun hv1 => fin 2 (Or.inr (Or.inr ⟨rfl, Or.inr ?_⟩)))) (fun hu1 => fin 2 (Or.inr (Or.inr ⟨rfl, Or.inl ?_⟩)))))
    · rcases hv2.1 with q | q | q
      · exact absurd q hv0
      · exact absurd q hv1
      · exact q
    · rcases hu.1 with q | q | q
      · exact absurd q hu0
      · exact absurd q hu1
      · exact q
theorem bz_sim (hN : bz_NI w N) (ht : bz_ti w ip) (K : ∀ st', bz_S w N ip st' → post (nI w, nI (3 * w), nI N.1, nI tc, nI ec, nI rc, N.2.1, N.2.2.1, N.2.2.2.1, N.2.2.2.2, st', tb, te, rq, sm, pa, ip)) : wpX_simulate post (nI w, nI (3 * w), nI N.1, nI tc, nI ec, nI rc, N.2.1, N.2.2.1, N.2.2.2.1, N.2.2.2.2, st, tb, te, rq, sm, pa, ip) := by
  have hb := hN.2.1
  have hw := hN.1
  refine nm_e ?_
  refine loop_0 (fun n i s => wX_simulate_9 post (nI w) (nI (3 * w)) (nI N.1) (nI tc) (nI ec) (nI rc) n (nI i) N.2.1 N.2.2.1 N.2.2.2.1 N.2.2.2.2 s tb te rq sm pa ip)
    (fun i s => s 0 = 0 ∧ ∀ k, k < i → s (1 + k) = ip k) (3 * w) (upd st 0 (vp_nar .byte 0)) ⟨by rw [pk_us]; exact bz_nar0, fun k h => by omega⟩
    (fun n s h => ?_) (fun n i s hi h ih => ?_)
  · refine br_t (nI_le (Nat.le_refl _) (by omega)) ⟨N.1 + 1, ?_⟩
    refine bz_sim41 hN K (N.1 - 13) 13 (N.1 + 1) s (by omega) (by omega) (by omega) ?_
    intro g hg
    rcases Nat.eq_zero_or_pos g with rfl | hp
    · rw [h.1]
      exact ⟨Or.inl rfl, fun x s c _ => Or.inr (by dsimp only; rw [c.1]; rfl), fun _ => by decide⟩
    · have hg2 : g ≤ 3 * w := by
        unfold bz_vg at hg
        dsimp only at hg
        omega
      obtain ⟨k, rfl⟩ : ∃ k, g = 1 + k := ⟨g - 1, by omega⟩
      rw [h.2 k (by omega)]
      refine ⟨ht k (by omega), fun x s c hx => ?_, fun hf => hf k (by omega)⟩
      rcases hx k (by omega) with q | q
      · exact Or.inl q
      · refine Or.inr ?_
        dsimp only
        rw [c.2.1 k (by omega)]; exact q
  · refine br_f (nI_ge hi (by omega)) ?_
    have e1 : (1 : Int32) + nI i = nI (1 + i) := nI_add 1 i
    rw [e1, nI_clamp (n := i) (by omega), nI_clamp (n := 1 + i) (by omega), bz_nar (ht i hi)]
    refine ⟨vp_in_nI (by omega) (by omega), vp_in_nI (by omega) (by omega), nm_e (nm_r (nI_1 i) (ih _ ⟨?_, fun k hk => ?_⟩))⟩
    · rw [pk_un (by omega)]; exact h.1
    · by_cases q : k = i
      · subst q; exact pk_us
      · rw [pk_un (by omega)]; exact h.2 k (by omega)
/-- what can be told of an edge's function -/
def bz_F (w : Nat) (ip : Nat → Int32) (v : Int32) (f : Nat → Bool) : Prop :=
  bz_tri v ∧ (∀ x, bz_cmp w ip x → v = 2 ∨ v = bz_I (f x)) ∧ (bz_full w ip → v ≠ 2)
theorem bz_seen {post : Int32 → Prop} {v : Int32} {f : Nat → Bool} (hN : bz_NI w N) (he : bz_ed w N v f) (hS : bz_S w N ip st)
    (K : ∀ r, bz_F w ip r f → post r) : wpX_seen post (nI w, nI (3 * w), nI N.1, nI tc, nI ec, nI rc, N.2.1, N.2.2.1, N.2.2.2.1, N.2.2.2.2, st, tb, te, rq, sm, pa, ip) v := by
  obtain ⟨e, rfl, hv, hs⟩ := he
  have hb := hN.2.1
  have hw := hN.1
  refine bz_seen0 (M := N) (by unfold bz_vg at hv; omega) (hS _ hv) (fun r hr => K r ⟨hr.1, fun x hx => ?_, hr.2.2⟩)
  obtain ⟨s, c⟩ := bz_ex hN x
  rw [← hs x s c]
  exact hr.2.1 x s c hx
end
end
section
/-! the searches -/
def bz_nd (w d p : Nat) (ip : Nat → Int32) : Prop :=
  (∀ k, k < d → ip k = bz_I (p.testBit (d - 1 - k))) ∧ ∀ k, d ≤ k → k < 3 * w → ip k = 2
theorem bz_nd_ti {w d p : Nat} {ip : Nat → Int32} (h : bz_nd w d p ip) : bz_ti w ip := by
  intro k hk
  by_cases q : k < d
  · rw [h.1 k q]; exact bz_I_tri _
  · exact Or.inr (Or.inr (h.2 k (by omega) hk))
theorem bz_nd_full {w p : Nat} {ip : Nat → Int32} (h : bz_nd w (3 * w) p ip) : bz_full w ip := by
  intro k hk
  rw [h.1 k hk]; exact bz_I_t2 _
theorem bz_nd_cmp {w d p h x : Nat} {ip : Nat → Int32} (hd : d + h = 3 * w) (n : bz_nd w d p ip) (hx : x / 2 ^ h = p) : bz_cmp w ip x := by
  intro k hk
  by_cases q : k < d
  · refine Or.inr ?_
    rw [n.1 k q, ← hx, Nat.testBit_div_two_pow, show d - 1 - k + h = 3 * w - 1 - k by omega]
  · exact Or.inl (n.2 k (by omega) hk)
theorem bz_tb2 (p b j : Nat) (hb : b < 2) : (2 * p + b).testBit (j + 1) = p.testBit j := by
  rw [Nat.testBit_add_one, show (2 * p + b) / 2 = p by omega]
theorem bz_nd_dn {w d p b : Nat} {ip : Nat → Int32} {v : Int32} (hb : b < 2) (hv : v = nI b) (h : ∀ k, k < d → ip k = bz_I (p.testBit (d - 1 - k))) (h2 : ∀ k, d + 1 ≤ k → k < 3 * w → ip k = 2) :
    bz_nd w (d + 1) (2 * p + b) (upd ip d v) := by
  refine ⟨fun k hk => ?_, fun k h1 h3 => ?_⟩
  · by_cases q : k = d
    · subst q
      rw [pk_us, hv, show k + 1 - 1 - k = 0 by omega, Nat.testBit_zero]
      rcases (show b = 0 ∨ b = 1 by omega) with rfl | rfl
      · rw [decide_eq_false (by omega)]; rfl
      · rw [decide_eq_true (by omega)]; rfl
    · rw [pk_un q, h k (by omega), show d + 1 - 1 - k = (d - 1 - k) + 1 by omega, bz_tb2 p b _ hb]
  · rw [pk_un (by omega)]; exact h2 k h1 h3
theorem bz_nd_up {w d p b : Nat} {ip : Nat → Int32} (hb : b < 2) (h : bz_nd w (d + 1) (2 * p + b) ip) :
    (∀ k, k < d → ip k = bz_I (p.testBit (d - 1 - k))) ∧ ip d = nI b := by
  refine ⟨fun k hk => ?_, ?_⟩
  · rw [h.1 k (by omega), show d + 1 - 1 - k = (d - 1 - k) + 1 by omega, bz_tb2 p b _ hb]
  · rw [h.1 d (by omega), show d + 1 - 1 - d = 0 by omega, Nat.testBit_zero]
    rcases (show b = 0 ∨ b = 1 by omega) with rfl | rfl
    · rw [decide_eq_false (by omega)]; rfl
    · rw [decide_eq_true (by omega)]; rfl
/-- the least number in lo .. hi - 1 where f holds, or -1 -/
def bz_LI (f : Nat → Bool) (lo hi : Nat) (r : Int32) : Prop :=
  (r = -1 ∧ ∀ x, lo ≤ x → x < hi → f x = false) ∨ ∃ m, r = nI m ∧ lo ≤ m ∧ m < hi ∧ f m = true ∧ ∀ x, lo ≤ x → x < m → f x = false
theorem bz_bit {w x j : Nat} (hw : w ≤ 4) (hx : x < 2 ^ 31) (hj : j < 3 * w) : (nI x >>> ((nI (3 * w) - 1 - nI j) &&& 31)) &&& 1 = bz_I (x.testBit (3 * w - 1 - j)) := by
  have e : nI (3 * w) - 1 - nI j = nI (3 * w - 1 - j) := by
    show nI (3 * w) - nI 1 - nI j = _
    rw [pk_sub (by omega), pk_sub (by omega)]
  rw [e, pk_shrN hx _ (3 * w - 1 - j) (s_l _ (by omega)), pk_andN (Nat.lt_of_le_of_lt (Nat.div_le_self _ _) (by omega)) 1 (by decide), bz_I_tb, Nat.pow_one]
section
variable {w tc ec rc : Nat} {N : bz_T} {st tb te rq sm pa ip : Nat → Int32}
theorem bz_num {post : Int32 → Prop} {d h p : Nat} (hw : w ≤ 4) (hd : d + h = 3 * w) (hp : p < 2 ^ d) (n : bz_nd w d p ip) (K : post (nI (p * 2 ^ h))) : wpX_numberNow post (nI w, nI (3 * w), nI N.1, nI tc, nI ec, nI rc, N.2.1, N.2.2.1, N.2.2.2.1, N.2.2.2.2, st, tb, te, rq, sm, pa, ip) := by
  have hy : p * 2 ^ h < 2 ^ (3 * w) := by
    rw [← hd, Nat.pow_add]
    exact Nat.mul_lt_mul_of_pos_right hp (Nat.two_pow_pos h)
  have hy2 : 2 ^ (3 * w) ≤ 2 ^ 12 := Nat.pow_le_pow_right (by decide) (by omega)
  have hbit : ∀ k, k < 3 * w → (ip k = 1 ↔ p * 2 ^ h / 2 ^ (3 * w - 1 - k) % 2 = 1) := by
    intro k hk
    have e : (p * 2 ^ h).testBit (3 * w - 1 - k) = decide (p * 2 ^ h / 2 ^ (3 * w - 1 - k) % 2 = 1) := Nat.testBit_eq_decide_div_mod_eq
    rw [Nat.testBit_mul_two_pow] at e
    by_cases q : k < d
    · rw [decide_eq_true (p := h ≤ 3 * w - 1 - k) (by omega), Bool.true_and, show 3 * w - 1 - k - h = d - 1 - k by omega] at e
      rw [n.1 k q, e]
      by_cases z : p * 2 ^ h / 2 ^ (3 * w - 1 - k) % 2 = 1
      · rw [decide_eq_true z]; exact ⟨fun _ => z, fun _ => rfl⟩
      · rw [decide_eq_false z]; exact ⟨fun y => absurd y (by decide), fun y => absurd y z⟩
    · rw [decide_eq_false (p := h ≤ 3 * w - 1 - k) (by omega), Bool.false_and] at e
      rw [n.2 k (by omega) hk]
      exact ⟨fun y => absurd y (by decide), fun y => absurd y (of_decide_eq_false e.symm)⟩
  generalize p * 2 ^ h = y at *
  have z : ∃ n, wX_numberNow_4 post (nI w) (nI (3 * w)) (nI N.1) (nI tc) (nI ec) (nI rc) N.2.1 N.2.2.1 N.2.2.2.1 N.2.2.2.2 st tb te rq sm pa ip n (nI (y / 2 ^ (3 * w - 0))) (nI 0) := by
    refine loop_0 (fun n i (s : Unit) => wX_numberNow_4 post (nI w) (nI (3 * w)) (nI N.1) (nI tc) (nI ec) (nI rc) N.2.1 N.2.2.1 N.2.2.2.1 N.2.2.2.2 st tb te rq sm pa ip n (nI (y / 2 ^ (3 * w - i))) (nI i)) (fun _ _ => True) (3 * w) () trivial
      (fun n s _ => ?_) (fun n i s hi _ ih => ?_)
    · refine br_t (nI_le (Nat.le_refl _) (by omega)) ?_
      rw [Nat.sub_self, Nat.pow_zero, Nat.div_one]; exact K
    · refine br_f (nI_ge hi (by omega)) ⟨vp_in_nI (by omega) (by omega), ?_⟩
      rw [nI_clamp (n := i) (by omega)]
      have e1 : y / 2 ^ (3 * w - i) = y / 2 ^ (3 * w - 1 - i) / 2 := by
        rw [Nat.div_div_eq_div_mul, ← Nat.pow_succ, show (3 * w - 1 - i).succ = 3 * w - i by omega]
      have e2 : 3 * w - (i + 1) = 3 * w - 1 - i := by omega
      have ih' := ih () trivial
      rw [e2] at ih'
      have hb := hbit i hi
      rw [e1]
      generalize y / 2 ^ (3 * w - 1 - i) = q at *
      refine ek_if hb (fun z => ?_) (fun z => ?_)
      · refine nm_r (e' := nI q) ?_ (nm_r (nI_1 i) ih')
        show nI 2 * nI (q / 2) + nI 1 = _
        rw [pk_mul, nI_add]
        exact congrArg nI (by omega)
      · refine nm_r (e' := nI q) ?_ (nm_r (nI_1 i) ih')
        show nI 2 * nI (q / 2) + nI 0 = _
        rw [pk_mul, nI_add]
        exact congrArg nI (by omega)
  obtain ⟨n, z⟩ := z
  rw [Nat.sub_zero, Nat.div_eq_of_lt hy] at z
  exact ⟨n, z⟩
variable {post : Int32 → SX → Prop} {v : Int32} {f : Nat → Bool} {D : Nat}
theorem bz_lwn (hN : bz_NI w N) (he : bz_ed w N v f) {h d p t L : Nat} (hL : L = p * 2 ^ h) (hd : d + h = 3 * w) (hp : p < 2 ^ d) (ht : t < 20000) (n : bz_nd w d p ip)
    (A : f L = true → ∀ st, post (nI L) (nI w, nI (3 * w), nI N.1, nI tc, nI ec, nI rc, N.2.1, N.2.2.1, N.2.2.2.1, N.2.2.2.2, st, tb, te, rq, sm, pa, ip))
    (B : (∀ x, L ≤ x → x < L + 2 ^ h → f x = false) → ∀ st, ∃ n, wX_leastWith_54 post (wX_leastWith_5 post v (nI D) (20000 - (t + 1))) v (nI D) (nI t) (nI w) (nI (3 * w)) (nI N.1) (nI tc) (nI ec) (nI rc) n (nI d) N.2.1 N.2.2.1 N.2.2.2.1 N.2.2.2.2 st tb te rq sm pa ip)
    (O : 1 ≤ h → ∀ st, wX_leastWith_5 post v (nI D) (20000 - (t + 1)) (nI (d + 1)) (nI (t + 1)) (nI w) (nI (3 * w)) (nI N.1) (nI tc) (nI ec) (nI rc) N.2.1 N.2.2.1 N.2.2.2.1 N.2.2.2.2 st tb te rq sm pa (upd ip d 0)) :
    wX_leastWith_5 post v (nI D) (20000 - t) (nI d) (nI t) (nI w) (nI (3 * w)) (nI N.1) (nI tc) (nI ec) (nI rc) N.2.1 N.2.2.1 N.2.2.2.1 N.2.2.2.2 st tb te rq sm pa ip := by
  have hw := hN.1
  rw [show 20000 - t = (20000 - (t + 1)) + 1 by omega]
  refine br_f (nI_ge (b := 20000) ht (by omega)) (bz_sim hN (bz_nd_ti n) (fun st1 hS => bz_seen hN he hS (fun r hr => ?_)))
  have hin : ∀ x, L ≤ x → x < L + 2 ^ h → bz_cmp w ip x := by
    intro x h1 h2
    refine bz_nd_cmp hd n (Nat.div_eq_of_lt_le (by omega) ?_)
    rw [Nat.succ_mul]; omega
  have h2h := Nat.two_pow_pos h
  refine br_c (fun h1 => ?_) (fun h1 => br_c (fun h2 => ?_) (fun h2 => ?_))
  · refine bz_num hw.2 hd hp n ?_
    rw [← hL]
    refine A ?_ st1
    rcases hr.2.1 L (hin L (Nat.le_refl _) (by omega)) with q | q
    · rw [h1] at q; exact absurd q (by decide)
    · rw [h1] at q; exact (bz_I_inj (a := true) q).symm
  · have h0 : 1 ≤ h := by
      rcases Nat.eq_zero_or_pos h with q | q
      · subst q
        have e : d = 3 * w := by omega
        subst e
        exact absurd h2 (hr.2.2 (bz_nd_full n))
      · exact q
    refine ⟨vp_in_nI (by omega) (by omega), nm_e (nm_r (nI_1 d) (nm_r (nI_1 t) ?_))⟩
    rw [nI_clamp (n := d) (by omega)]
    exact O h0 st1
  · refine B (fun x hx1 hx2 => ?_) st1
    have h0 : r = 0 := by
      rcases hr.1 with q | q | q
      · exact q
      · exact absurd q h1
      · exact absurd q h2
    rcases hr.2.1 x (hin x hx1 hx2) with q | q
    · exact absurd q h2
    · rw [h0] at q; exact (bz_I_inj (a := false) q).symm
theorem bz_lw5 (hN : bz_NI w N) (he : bz_ed w N v f) : ∀ (h d p t L : Nat) (st ip : Nat → Int32), L = p * 2 ^ h → d + h = 3 * w → D ≤ d → p < 2 ^ d → t + 2 ^ (h + 1) ≤ 20000 → bz_nd w d p ip →
    (∀ x st ip, L ≤ x → x < L + 2 ^ h → f x = true → (∀ y, L ≤ y → y < x → f y = false) → post (nI x) (nI w, nI (3 * w), nI N.1, nI tc, nI ec, nI rc, N.2.1, N.2.2.1, N.2.2.2.1, N.2.2.2.2, st, tb, te, rq, sm, pa, ip)) →
    ((∀ x, L ≤ x → x < L + 2 ^ h → f x = false) → ∀ t' st ip, t' + 2 ≤ t + 2 ^ (h + 1) → bz_nd w d p ip →
      ∃ n, wX_leastWith_54 post (wX_leastWith_5 post v (nI D) (20000 - (t' + 1))) v (nI D) (nI t') (nI w) (nI (3 * w)) (nI N.1) (nI tc) (nI ec) (nI rc) n (nI d) N.2.1 N.2.2.1 N.2.2.2.1 N.2.2.2.2 st tb te rq sm pa ip) →
    wX_leastWith_5 post v (nI D) (20000 - t) (nI d) (nI t) (nI w) (nI (3 * w)) (nI N.1) (nI tc) (nI ec) (nI rc) N.2.1 N.2.2.1 N.2.2.2.1 N.2.2.2.2 st tb te rq sm pa ip := by
  have hw := hN.1
  intro h
  induction h with
  | zero =>
    intro d p t L st ip hL hd hD hp ht n A B
    refine bz_lwn hN he hL hd hp (by omega) n (fun hf st => ?_) (fun hf st => B hf t st ip (by omega) n) (fun z => by omega)
    exact A L st ip (Nat.le_refl _) (by omega) hf (fun y h1 h2 => by omega)
  | succ h ih =>
    intro d p t L st ip hL hd hD hp ht n A B
    have e1 : 2 ^ (h + 1) = 2 * 2 ^ h := by rw [Nat.pow_succ, Nat.mul_comm]
    have e2 : 2 ^ (h + 1 + 1) = 2 * 2 ^ (h + 1) := by rw [Nat.pow_succ, Nat.mul_comm]
    have e3 : 2 ^ (d + 1) = 2 * 2 ^ d := by rw [Nat.pow_succ, Nat.mul_comm]
    have hq := Nat.two_pow_pos h
    have hL1 : L = (2 * p + 0) * 2 ^ h := by rw [hL, e1, ← Nat.mul_assoc, Nat.mul_comm p 2, Nat.add_zero]
    have hL2 : L + 2 ^ h = (2 * p + 1) * 2 ^ h := by rw [Nat.add_mul, Nat.one_mul, ← Nat.add_zero (2 * p), ← hL1]
    refine bz_lwn hN he hL hd hp (by omega) n (fun hf st => ?_) (fun hf st => B hf t st ip (by omega) n) (fun _ st => ?_)
    · exact A L st ip (Nat.le_refl _) (by omega) hf (fun y h1 h2 => by omega)
    · have n0 : bz_nd w (d + 1) (2 * p + 0) (upd ip d 0) := bz_nd_dn (by omega) rfl n.1 (fun k h1 h2 => n.2 k (by omega) h2)
      refine ih (d + 1) (2 * p + 0) (t + 1) L st _ hL1 (by omega) (by omega) (by omega) (by omega) n0
        (fun x st ip h1 h2 h3 h4 => A x st ip h1 (by omega) h3 h4) (fun F1 t1 st1 ip1 ht1 n1 => ?_)
      obtain ⟨u1, u2⟩ := bz_nd_up (by omega) n1
      refine ⟨1, ?_⟩
      refine br_f (nI_ge (by omega) (by omega)) ?_
      rw [nI_pred]
      refine ⟨vp_in_nI (by omega) (by omega), ?_⟩
      rw [nI_clamp (n := d) (by omega), u2]
      refine br_f (by decide) (br_f (fun z => ?_) ?_)
      · have := (nI_eq (by omega) (by omega)).mp z
        omega
      · rw [nI_pred]
        refine ⟨vp_in_nI (by omega) (by omega), nm_e (nm_r (nI_1 t1) ?_)⟩
        rw [nI_clamp (n := d) (by omega)]
        have n2 : bz_nd w (d + 1) (2 * p + 1) (upd ip1 d 1) := bz_nd_dn (by omega) rfl u1 (fun k h1 h2 => n1.2 k (by omega) h2)
        refine ih (d + 1) (2 * p + 1) (t1 + 1) (L + 2 ^ h) st1 _ hL2 (by omega) (by omega) (by omega) (by omega) n2
          (fun x st ip h1 h2 h3 h4 => A x st ip (by omega) (by omega) h3 (fun y h5 h6 => ?_)) (fun F2 t2 st2 ip2 ht2 n3 => ?_)
        · by_cases q : y < L + 2 ^ h
          · exact F1 y h5 q
          · exact h4 y (by omega) h6
        · obtain ⟨u3, u4⟩ := bz_nd_up (by omega) n3
          have n4 : bz_nd w d p (upd ip2 d 2) := by
            refine ⟨fun k hk => ?_, fun k h1 h2 => ?_⟩
            · rw [pk_un (by omega)]; exact u3 k hk
            · by_cases q : k = d
              · subst q; exact pk_us
              · rw [pk_un q]; exact n3.2 k (by omega) h2
          obtain ⟨m, hm⟩ := B (fun x h1 h2 => by
            by_cases q : x < L + 2 ^ h
            · exact F1 x h1 q
            · exact F2 x (by omega) (by omega)) t2 st2 (upd ip2 d 2) (by omega) n4
          refine ⟨m + 1, ?_⟩
          refine br_f (nI_ge (by omega) (by omega)) ?_
          rw [nI_pred]
          refine ⟨vp_in_nI (by omega) (by omega), ?_⟩
          rw [nI_clamp (n := d) (by omega), u4]
          refine br_t rfl (nm_r (pk_m1 d) ⟨vp_in_nI (by omega) (by omega), ?_⟩)
          rw [nI_clamp (n := d) (by omega)]
          exact nm_e hm
theorem bz_lw (hN : bz_NI w N) (he : bz_ed w N v f) {h p : Nat} (hd : D + h = 3 * w) (hp : p < 2 ^ D) (n : bz_nd w D p ip)
    (K : ∀ r st ip, bz_LI f (p * 2 ^ h) (p * 2 ^ h + 2 ^ h) r → post r (nI w, nI (3 * w), nI N.1, nI tc, nI ec, nI rc, N.2.1, N.2.2.1, N.2.2.2.1, N.2.2.2.2, st, tb, te, rq, sm, pa, ip)) : wpX_leastWith post (nI w, nI (3 * w), nI N.1, nI tc, nI ec, nI rc, N.2.1, N.2.2.1, N.2.2.2.1, N.2.2.2.2, st, tb, te, rq, sm, pa, ip) v (nI D) := by
  have hw := hN.1
  have hy2 : 2 ^ (h + 1) ≤ 2 ^ 13 := Nat.pow_le_pow_right (by decide) (by omega)
  refine ⟨20000 - 0, bz_lw5 hN he h D p 0 _ st ip rfl hd (Nat.le_refl _) hp (by omega) n (fun x st ip h1 h2 h3 h4 => K _ st ip (Or.inr ⟨x, rfl, h1, h2, h3, h4⟩)) (fun F t' st' ip' _ _ => ⟨1, ?_⟩)⟩
  exact br_t (nI_le (Nat.le_refl _) (by omega)) (br_t rfl (K _ st' ip' (Or.inl ⟨rfl, F⟩)))
end
end
section
/-! firstFrom, countFor, setInputs -/
section
variable {w tc ec rc : Nat} {N : bz_T} {st tb te rq sm pa ip : Nat → Int32} {post : Int32 → SX → Prop} {v : Int32} {f : Nat → Bool}
theorem bz_ff47 {x k : Nat} {J : Int32 → Int32 → Int32 → Int32 → Int32 → Int32 → Int32 → (Nat → Int32) → (Nat → Int32) → (Nat → Int32) → (Nat → Int32) → (Nat → Int32) → (Nat → Int32) → (Nat → Int32) → (Nat → Int32) → (Nat → Int32) → (Nat → Int32) → (Nat → Int32) → Prop}
    (hw : w ≤ 4) (hx : x < 2 ^ 31) (hk : k ≤ 3 * w)
    (K1 : k = 3 * w → ∀ ip, (∀ j, j < 3 * w → ip j = if j < k then bz_I (x.testBit (3 * w - 1 - j)) else 2) → wX_firstFrom_111 post J v (nI x) (nI k) (nI w) (nI (3 * w)) (nI N.1) (nI tc) (nI ec) (nI rc) N.2.1 N.2.2.1 N.2.2.2.1 N.2.2.2.2 st tb te rq sm pa ip)
    (K2 : k < 3 * w → ∀ ip, (∀ j, j < 3 * w → ip j = if j < k then bz_I (x.testBit (3 * w - 1 - j)) else 2) → wX_firstFrom_111 post J v (nI x) (nI k) (nI w) (nI (3 * w)) (nI N.1) (nI tc) (nI ec) (nI rc) N.2.1 N.2.2.1 N.2.2.2.1 N.2.2.2.2 st tb te rq sm pa (upd ip k 1)) :
    ∃ n, wX_firstFrom_47 post J v (nI x) (nI k) (nI w) (nI (3 * w)) (nI N.1) (nI tc) (nI ec) (nI rc) n 0 N.2.1 N.2.2.1 N.2.2.2.1 N.2.2.2.2 st tb te rq sm pa ip := by
  refine loop_0 (fun n i s => wX_firstFrom_47 post J v (nI x) (nI k) (nI w) (nI (3 * w)) (nI N.1) (nI tc) (nI ec) (nI rc) n (nI i) N.2.1 N.2.2.1 N.2.2.2.1 N.2.2.2.2 st tb te rq sm pa s)
    (fun i s => ∀ j, j < i → s j = if j < k then bz_I (x.testBit (3 * w - 1 - j)) else 2) (3 * w) ip (fun j h => by omega)
    (fun n s h => ?_) (fun n i s hi h ih => ?_)
  · refine br_t (nI_le (Nat.le_refl _) (by omega)) ?_
    by_cases q : k = 3 * w
    · exact br_t (nI_le (by omega) (by omega)) (K1 q s h)
    · refine br_f (nI_ge (by omega) (by omega)) ⟨vp_in_nI (by omega) (by omega), nm_e ?_⟩
      rw [nI_clamp (n := k) (by omega)]
      exact K2 (by omega) s h
  · refine br_f (nI_ge hi (by omega)) ?_
    rw [bz_bit hw hx hi]
    refine nm_e ?_
    by_cases q : k ≤ i
    · refine br_t (nI_le q (by omega)) ⟨vp_in_nI (by omega) (by omega), nm_e (nm_r (nI_1 i) (ih _ ?_))⟩
      rw [nI_clamp (n := i) (by omega)]
      exact bz_fl (F := fun j => if j < k then bz_I (x.testBit (3 * w - 1 - j)) else 2) h (by rw [if_neg (by omega)])
    · refine br_f (nI_ge (by omega) (by omega)) ⟨vp_in_nI (by omega) (by omega), nm_e (nm_r (nI_1 i) (ih _ ?_))⟩
      rw [nI_clamp (n := i) (by omega)]
      exact bz_fl (F := fun j => if j < k then bz_I (x.testBit (3 * w - 1 - j)) else 2) h (by rw [if_pos (by omega)])
theorem bz_ndA {x : Nat} {ip : Nat → Int32} (h : ∀ j, j < 3 * w → ip j = if j < 3 * w then bz_I (x.testBit (3 * w - 1 - j)) else 2) : bz_nd w (3 * w) x ip :=
  ⟨fun k hk => by rw [h k hk, if_pos hk], fun k h1 h2 => by omega⟩
theorem bz_ndB {x k : Nat} {ip : Nat → Int32} (hk : k < 3 * w) (h : ∀ j, j < 3 * w → ip j = if j < k then bz_I (x.testBit (3 * w - 1 - j)) else 2) :
    bz_nd w (k + 1) (2 * (x / 2 ^ (3 * w - k)) + 1) (upd ip k 1) := by
  refine bz_nd_dn (by omega) rfl (fun j hj => ?_) (fun j h1 h2 => ?_)
  · rw [h j (by omega), if_pos hj, Nat.testBit_div_two_pow, show k - 1 - j + (3 * w - k) = 3 * w - 1 - j by omega]
  · rw [h j h2, if_neg (by omega)]
theorem bz_LI_neg {lo hi : Nat} {r : Int32} {A B : Prop} (hhi : hi ≤ 2 ^ 30) (h : bz_LI f lo hi r) (a : (∀ x, lo ≤ x → x < hi → f x = false) → A)
    (b : ∀ m, r = nI m → lo ≤ m → m < hi → f m = true → (∀ x, lo ≤ x → x < m → f x = false) → B) : (r < 0 → A) ∧ (¬ r < 0 → B) := by
  rcases h with ⟨rfl, h⟩ | ⟨m, rfl, h1, h2, h3, h4⟩
  · exact br_t (by decide) (a h)
  · exact br_f (nI_pos (by omega)) (b m rfl h1 h2 h3 h4)
theorem bz_ffs (hN : bz_NI w N) (he : bz_ed w N v f) {x k n : Nat} (hx : x < 2 ^ (3 * w)) (hk : k ≤ 3 * w)
    (pre : k < 3 * w → ∀ y, x ≤ y → y < (x / 2 ^ (3 * w - (k + 1)) + 1) * 2 ^ (3 * w - (k + 1)) → f y = false)
    (F : ∀ m st ip, x ≤ m → m < 2 ^ (3 * w) → f m = true → (∀ y, x ≤ y → y < m → f y = false) → post (nI m) (nI w, nI (3 * w), nI N.1, nI tc, nI ec, nI rc, N.2.1, N.2.2.1, N.2.2.2.1, N.2.2.2.2, st, tb, te, rq, sm, pa, ip))
    (nxt : (∀ y, x ≤ y → y < (x / 2 ^ (3 * w - k) + 1) * 2 ^ (3 * w - k) → f y = false) → ∀ st ip, wX_firstFrom_5 post v (nI x) n (nI k + (-1)) (nI w) (nI (3 * w)) (nI N.1) (nI tc) (nI ec) (nI rc) N.2.1 N.2.2.1 N.2.2.2.1 N.2.2.2.2 st tb te rq sm pa ip) :
    wX_firstFrom_5 post v (nI x) (n + 1) (nI k) (nI w) (nI (3 * w)) (nI N.1) (nI tc) (nI ec) (nI rc) N.2.1 N.2.2.1 N.2.2.2.1 N.2.2.2.2 st tb te rq sm pa ip := by
  have hw := hN.1
  have hy2 : 2 ^ (3 * w) ≤ 2 ^ 12 := Nat.pow_le_pow_right (by decide) (by omega)
  refine br_f (nI_pos (by omega)) ?_
  by_cases q : k = 3 * w
  · subst q
    refine br_t rfl (br_f (by decide) (bz_ff47 hw.2 (by omega) (Nat.le_refl _) (fun _ ip1 h1 => ?_) (fun z => by omega)))
    refine br_t (nI_le (Nat.le_refl _) (by omega)) ?_
    refine bz_lw hN he (h := 0) (by omega) hx (bz_ndA h1) (fun r st2 ip2 hr => ?_)
    rw [Nat.pow_zero, Nat.mul_one] at hr
    refine bz_LI_neg (by omega) hr (fun hf => ?_) (fun m e1 h2 h3 h4 h5 => ?_)
    · refine nm_e (nxt (fun y h6 h7 => hf y h6 ?_) st2 ip2)
      rw [Nat.sub_self, Nat.pow_zero, Nat.div_one, Nat.mul_one] at h7
      omega
    · rw [e1]
      exact F m st2 ip2 h2 (by omega) h4 h5
  · have hk2 : k < 3 * w := by omega
    refine br_f (fun z => q ((nI_eq (by omega) (by omega)).mp z)) ?_
    rw [bz_bit hw.2 (by omega) hk2]
    have pre := pre hk2
    have em : 3 * w - k = (3 * w - (k + 1)) + 1 := by omega
    have hq : x / 2 ^ (3 * w - k) = x / 2 ^ (3 * w - (k + 1)) / 2 := by
      rw [Nat.div_div_eq_div_mul, ← Nat.pow_succ, show (3 * w - (k + 1)).succ = 3 * w - k by omega]
    have hU : 2 ^ (3 * w - k) = 2 * 2 ^ (3 * w - (k + 1)) := by rw [em, Nat.pow_succ, Nat.mul_comm]
    have htb : x.testBit (3 * w - 1 - k) = decide (x / 2 ^ (3 * w - (k + 1)) % 2 = 1) := by
      rw [Nat.testBit_eq_decide_div_mod_eq, show 3 * w - 1 - k = 3 * w - (k + 1) by omega]
    rw [htb]
    have hdlt : x / 2 ^ (3 * w - (k + 1)) < 2 ^ (k + 1) := by
      apply Nat.div_lt_of_lt_mul
      rw [← Nat.pow_add, show 3 * w - (k + 1) + (k + 1) = 3 * w by omega]
      exact hx
    have hpw : 2 ^ (k + 1) * 2 ^ (3 * w - (k + 1)) = 2 ^ (3 * w) := by
      rw [← Nat.pow_add, show (k + 1) + (3 * w - (k + 1)) = 3 * w by omega]
    have hlo : x / 2 ^ (3 * w - (k + 1)) * 2 ^ (3 * w - (k + 1)) ≤ x := Nat.div_mul_le_self _ _
    have hhi : x < (x / 2 ^ (3 * w - (k + 1)) + 1) * 2 ^ (3 * w - (k + 1)) := by
      have := Nat.lt_div_mul_add (a := x) (Nat.two_pow_pos (3 * w - (k + 1)))
      rw [Nat.succ_mul]; exact this
    have hN2 : bz_nd w (k + 1) (2 * (x / 2 ^ (3 * w - k)) + 1) (upd ip k 1) = bz_nd w (k + 1) (2 * (x / 2 ^ (3 * w - (k + 1)) / 2) + 1) (upd ip k 1) := by rw [hq]
    have hB : ∀ ip1 : Nat → Int32, (∀ j, j < 3 * w → ip1 j = if j < k then bz_I (x.testBit (3 * w - 1 - j)) else 2) → bz_nd w (k + 1) (2 * (x / 2 ^ (3 * w - (k + 1)) / 2) + 1) (upd ip1 k 1) := by
      intro ip1 h1
      rw [← hq]; exact bz_ndB hk2 h1
    rw [hq, hU] at nxt
    clear hq hN2 htb
    by_cases o : x / 2 ^ (3 * w - (k + 1)) % 2 = 1
    · rw [decide_eq_true o]
      refine br_f (by decide) (br_t rfl (nm_e (nxt (fun y h1 h2 => pre y h1 ?_) st ip)))
      generalize x / 2 ^ (3 * w - (k + 1)) = d at *
      generalize 2 ^ (3 * w - (k + 1)) = u at *
      obtain ⟨c, rfl⟩ : ∃ c, d = 2 * c + 1 := ⟨d / 2, by omega⟩
      rw [show (2 * c + 1) / 2 = c by omega] at h2
      have : (c + 1) * (2 * u) = (2 * c + 1 + 1) * u := by
        rw [← Nat.mul_assoc, show (c + 1) * 2 = 2 * c + 1 + 1 by omega]
      omega
    · rw [decide_eq_false o]
      refine br_t rfl (br_f (by decide) (bz_ff47 hw.2 (by omega) hk (fun z => by omega) (fun _ ip1 h1 => ?_)))
      refine br_f (nI_ge (by omega) (by omega)) ?_
      have n1 := hB ip1 h1
      rw [nI_1]
      generalize x / 2 ^ (3 * w - (k + 1)) = d at *
      have ed : 2 * (d / 2) + 1 = d + 1 := by omega
      rw [ed] at n1
      refine bz_lw hN he (h := 3 * w - (k + 1)) (by omega) (by rw [Nat.pow_succ] at hdlt ⊢; omega) n1 (fun r st2 ip2 hr => ?_)
      have hd1 : (d + 2) * 2 ^ (3 * w - (k + 1)) ≤ 2 ^ (3 * w) := by
        rw [← hpw]
        apply Nat.mul_le_mul_right
        rw [Nat.pow_succ] at hdlt ⊢; omega
      have hd2 : (d + 1) * 2 ^ (3 * w - (k + 1)) + 2 ^ (3 * w - (k + 1)) = (d + 2) * 2 ^ (3 * w - (k + 1)) := by
        rw [← Nat.succ_mul]
      have hd3 : (d / 2 + 1) * (2 * 2 ^ (3 * w - (k + 1))) = (d + 2) * 2 ^ (3 * w - (k + 1)) := by
        rw [← Nat.mul_assoc, show (d / 2 + 1) * 2 = d + 2 by omega]
      refine bz_LI_neg (by omega) hr (fun hf => ?_) (fun m e1 h2 h3 h4 h5 => ?_)
      · refine nm_e (nxt (fun y h6 h7 => ?_) st2 ip2)
        by_cases z : y < (d + 1) * 2 ^ (3 * w - (k + 1))
        · exact pre y h6 z
        · exact hf y (by omega) (by omega)
      · rw [e1]
        refine F m st2 ip2 (by omega) (by omega) h4 (fun y h6 h7 => ?_)
        by_cases z : y < (d + 1) * 2 ^ (3 * w - (k + 1))
        · exact pre y h6 z
        · exact h5 y (by omega) h7
theorem bz_ff5 (hN : bz_NI w N) (he : bz_ed w N v f) {x : Nat} (hx : x < 2 ^ (3 * w)) (K : ∀ r st ip, bz_LI f x (2 ^ (3 * w)) r → post r (nI w, nI (3 * w), nI N.1, nI tc, nI ec, nI rc, N.2.1, N.2.2.1, N.2.2.2.1, N.2.2.2.2, st, tb, te, rq, sm, pa, ip)) :
    ∀ (k n : Nat) (st ip : Nat → Int32), k ≤ 3 * w → k + 1 < n → (k < 3 * w → ∀ y, x ≤ y → y < (x / 2 ^ (3 * w - (k + 1)) + 1) * 2 ^ (3 * w - (k + 1)) → f y = false) →
    wX_firstFrom_5 post v (nI x) n (nI k) (nI w) (nI (3 * w)) (nI N.1) (nI tc) (nI ec) (nI rc) N.2.1 N.2.2.1 N.2.2.2.1 N.2.2.2.2 st tb te rq sm pa ip := by
  intro k
  induction k with
  | zero =>
    intro n st ip hk hn pre
    obtain ⟨n, rfl⟩ : ∃ q, n = q + 1 + 1 := ⟨n - 2, by omega⟩
    refine bz_ffs hN he hx hk pre (fun m st ip h1 h2 h3 h4 => K _ st ip (Or.inr ⟨m, rfl, h1, h2, h3, h4⟩)) (fun hf st ip => ?_)
    refine br_t (by decide) (K _ st ip (Or.inl ⟨rfl, fun y h1 h2 => hf y h1 ?_⟩))
    rw [Nat.sub_zero, Nat.div_eq_of_lt hx, Nat.zero_add, Nat.one_mul]; exact h2
  | succ k ih =>
    intro n st ip hk hn pre
    obtain ⟨n, rfl⟩ : ∃ q, n = q + 1 := ⟨n - 1, by omega⟩
    refine bz_ffs hN he hx hk pre (fun m st ip h1 h2 h3 h4 => K _ st ip (Or.inr ⟨m, rfl, h1, h2, h3, h4⟩)) (fun hf st ip => ?_)
    rw [pk_m1]
    exact ih n st ip (by omega) (by omega) (fun _ => hf)
theorem bz_first (hN : bz_NI w N) (he : bz_ed w N v f) {x : Nat} (hx : x < 2 ^ (3 * w)) (K : ∀ r st ip, bz_LI f x (2 ^ (3 * w)) r → post r (nI w, nI (3 * w), nI N.1, nI tc, nI ec, nI rc, N.2.1, N.2.2.1, N.2.2.2.1, N.2.2.2.2, st, tb, te, rq, sm, pa, ip)) :
    wpX_firstFrom post (nI w, nI (3 * w), nI N.1, nI tc, nI ec, nI rc, N.2.1, N.2.2.1, N.2.2.2.1, N.2.2.2.2, st, tb, te, rq, sm, pa, ip) v (nI x) :=
  ⟨3 * w + 2, bz_ff5 hN he hx K (3 * w) (3 * w + 2) st ip (Nat.le_refl _) (by omega) (fun z => by omega)⟩
end
/-- how many of L .. L + n - 1 hold -/
def bz_cn (f : Nat → Bool) (L : Nat) : Nat → Nat
  | 0 => 0
  | n + 1 => bz_cn f L n + (f (L + n)).toNat
theorem bz_cn_add (f : Nat → Bool) (L a b : Nat) : bz_cn f L (a + b) = bz_cn f L a + bz_cn f (L + a) b := by
  induction b with
  | zero => rfl
  | succ b ih =>
    show bz_cn f L (a + b) + (f (L + (a + b))).toNat = bz_cn f L a + (bz_cn f (L + a) b + (f (L + a + b)).toNat)
    rw [ih, Nat.add_assoc L a b]; omega
theorem bz_cn_f {f : Nat → Bool} {L n : Nat} (h : ∀ x, L ≤ x → x < L + n → f x = false) : bz_cn f L n = 0 := by
  induction n with
  | zero => rfl
  | succ n ih =>
    show bz_cn f L n + (f (L + n)).toNat = 0
    rw [ih (fun x h1 h2 => h x h1 (by omega)), h (L + n) (by omega) (by omega)]; rfl
theorem bz_cn_t {f : Nat → Bool} {L n : Nat} (h : ∀ x, L ≤ x → x < L + n → f x = true) : bz_cn f L n = n := by
  induction n with
  | zero => rfl
  | succ n ih =>
    show bz_cn f L n + (f (L + n)).toNat = n + 1
    rw [ih (fun x h1 h2 => h x h1 (by omega)), h (L + n) (by omega) (by omega)]; rfl
theorem bz_cn_le (f : Nat → Bool) (L n : Nat) : bz_cn f L n ≤ n := by
  induction n with
  | zero => exact Nat.le_refl _
  | succ n ih =>
    show bz_cn f L n + (f (L + n)).toNat ≤ n + 1
    have : (f (L + n)).toNat ≤ 1 := Bool.toNat_le _
    omega
section
variable {w tc ec rc : Nat} {N : bz_T} {st tb te rq sm pa ip : Nat → Int32} {post : Int32 → SX → Prop} {v : Int32} {f : Nat → Bool}
theorem bz_cfn (hN : bz_NI w N) (he : bz_ed w N v f) {h d p t L tot : Nat} (hL : L = p * 2 ^ h) (hd : d + h = 3 * w) (hp : p < 2 ^ d) (ht : t < 20000) (n : bz_nd w d p ip)
    (B : ∀ st, ∃ n, wX_countFor_89 post (wX_countFor_30 post v (20000 - (t + 1))) v (nI (tot + bz_cn f L (2 ^ h))) (nI t) (nI w) (nI (3 * w)) (nI N.1) (nI tc) (nI ec) (nI rc) n (nI d) N.2.1 N.2.2.1 N.2.2.2.1 N.2.2.2.2 st tb te rq sm pa ip)
    (O : 1 ≤ h → ∀ st, wX_countFor_30 post v (20000 - (t + 1)) (nI (d + 1)) (nI tot) (nI (t + 1)) (nI w) (nI (3 * w)) (nI N.1) (nI tc) (nI ec) (nI rc) N.2.1 N.2.2.1 N.2.2.2.1 N.2.2.2.2 st tb te rq sm pa (upd ip d 0)) :
    wX_countFor_30 post v (20000 - t) (nI d) (nI tot) (nI t) (nI w) (nI (3 * w)) (nI N.1) (nI tc) (nI ec) (nI rc) N.2.1 N.2.2.1 N.2.2.2.1 N.2.2.2.2 st tb te rq sm pa ip := by
  have hw := hN.1
  rw [show 20000 - t = (20000 - (t + 1)) + 1 by omega]
  refine br_f (nI_ge (b := 20000) ht (by omega)) (bz_sim hN (bz_nd_ti n) (fun st1 hS => bz_seen hN he hS (fun r hr => ?_)))
  have hin : ∀ x, L ≤ x → x < L + 2 ^ h → bz_cmp w ip x := by
    intro x h1 h2
    refine bz_nd_cmp hd n (Nat.div_eq_of_lt_le (by omega) ?_)
    rw [Nat.succ_mul]; omega
  refine br_c (fun h2 => ?_) (fun h2 => br_c (fun h1 => ?_) (fun h1 => ?_))
  · have h0 : 1 ≤ h := by
      rcases Nat.eq_zero_or_pos h with q | q
      · subst q
        have e : d = 3 * w := by omega
        subst e
        exact absurd h2 (hr.2.2 (bz_nd_full n))
      · exact q
    refine ⟨vp_in_nI (by omega) (by omega), nm_e (nm_r (nI_1 d) (nm_r (nI_1 t) ?_))⟩
    rw [nI_clamp (n := d) (by omega)]
    exact O h0 st1
  · have e1 : bz_cn f L (2 ^ h) = 2 ^ h := bz_cn_t (fun x hx1 hx2 => by
      rcases hr.2.1 x (hin x hx1 hx2) with q | q
      · exact absurd q h2
      · rw [h1] at q; exact (bz_I_inj (a := true) q).symm)
    rw [e1] at B
    refine nm_r (e' := nI (tot + 2 ^ h)) ?_ (B st1)
    have hy2 : 2 ^ h ≤ 2 ^ 12 := Nat.pow_le_pow_right (by decide) (by omega)
    rw [pk_sub (by omega), show 3 * w - d = h by omega, ← nI_add]
    refine congrArg (nI tot + ·) ?_
    show nI 1 <<< (nI h &&& 31) = _
    rw [pk_shlN _ h (s_l h (by omega)) (by omega), Nat.one_mul]
  · have h0 : r = 0 := by
      rcases hr.1 with q | q | q
      · exact q
      · exact absurd q h1
      · exact absurd q h2
    have e1 : bz_cn f L (2 ^ h) = 0 := bz_cn_f (fun x hx1 hx2 => by
      rcases hr.2.1 x (hin x hx1 hx2) with q | q
      · exact absurd q h2
      · rw [h0] at q; exact (bz_I_inj (a := false) q).symm)
    rw [e1] at B
    exact nm_r (e' := nI (tot + 0)) (nI_add tot 0) (B st1)
theorem bz_cf30 (hN : bz_NI w N) (he : bz_ed w N v f) : ∀ (h d p t L tot : Nat) (st ip : Nat → Int32), L = p * 2 ^ h → d + h = 3 * w → p < 2 ^ d → t + 2 ^ (h + 1) ≤ 20000 → bz_nd w d p ip →
    (∀ t' st ip, t' + 2 ≤ t + 2 ^ (h + 1) → bz_nd w d p ip →
      ∃ n, wX_countFor_89 post (wX_countFor_30 post v (20000 - (t' + 1))) v (nI (tot + bz_cn f L (2 ^ h))) (nI t') (nI w) (nI (3 * w)) (nI N.1) (nI tc) (nI ec) (nI rc) n (nI d) N.2.1 N.2.2.1 N.2.2.2.1 N.2.2.2.2 st tb te rq sm pa ip) →
    wX_countFor_30 post v (20000 - t) (nI d) (nI tot) (nI t) (nI w) (nI (3 * w)) (nI N.1) (nI tc) (nI ec) (nI rc) N.2.1 N.2.2.1 N.2.2.2.1 N.2.2.2.2 st tb te rq sm pa ip := by
  have hw := hN.1
  intro h
  induction h with
  | zero =>
    intro d p t L tot st ip hL hd hp ht n B
    exact bz_cfn hN he hL hd hp (by omega) n (fun st => B t st ip (by omega) n) (fun z => by omega)
  | succ h ih =>
    intro d p t L tot st ip hL hd hp ht n B
    have e1 : 2 ^ (h + 1) = 2 * 2 ^ h := by rw [Nat.pow_succ, Nat.mul_comm]
    have e2 : 2 ^ (h + 1 + 1) = 2 * 2 ^ (h + 1) := by rw [Nat.pow_succ, Nat.mul_comm]
    have e3 : 2 ^ (d + 1) = 2 * 2 ^ d := by rw [Nat.pow_succ, Nat.mul_comm]
    have hq := Nat.two_pow_pos h
    have hL1 : L = (2 * p + 0) * 2 ^ h := by rw [hL, e1, ← Nat.mul_assoc, Nat.mul_comm p 2, Nat.add_zero]
    have hL2 : L + 2 ^ h = (2 * p + 1) * 2 ^ h := by rw [Nat.add_mul, Nat.one_mul, ← Nat.add_zero (2 * p), ← hL1]
    refine bz_cfn hN he hL hd hp (by omega) n (fun st => B t st ip (by omega) n) (fun _ st => ?_)
    have n0 : bz_nd w (d + 1) (2 * p + 0) (upd ip d 0) := bz_nd_dn (by omega) rfl n.1 (fun k h1 h2 => n.2 k (by omega) h2)
    refine ih (d + 1) (2 * p + 0) (t + 1) L tot st _ hL1 (by omega) (by omega) (by omega) n0 (fun t1 st1 ip1 ht1 n1 => ?_)
    obtain ⟨u1, u2⟩ := bz_nd_up (by omega) n1
    refine ⟨1, ?_⟩
    refine br_f (nI_nle (by omega) (by omega)) ?_
    rw [nI_pred]
    refine ⟨vp_in_nI (by omega) (by omega), ?_⟩
    rw [nI_clamp (n := d) (by omega), u2]
    refine br_f (by decide) (br_f (nI_ne0 (by omega) (by omega)) ?_)
    rw [nI_pred]
    refine ⟨vp_in_nI (by omega) (by omega), nm_e (nm_r (nI_1 t1) ?_)⟩
    rw [nI_clamp (n := d) (by omega)]
    have n2 : bz_nd w (d + 1) (2 * p + 1) (upd ip1 d 1) := bz_nd_dn (by omega) rfl u1 (fun k h1 h2 => n1.2 k (by omega) h2)
    refine ih (d + 1) (2 * p + 1) (t1 + 1) (L + 2 ^ h) _ st1 _ hL2 (by omega) (by omega) (by omega) n2 (fun t2 st2 ip2 ht2 n3 => ?_)
    obtain ⟨u3, u4⟩ := bz_nd_up (by omega) n3
    have n4 : bz_nd w d p (upd ip2 d 2) := by
      refine ⟨fun k hk => ?_, fun k h1 h2 => ?_⟩
      · rw [pk_un (by omega)]; exact u3 k hk
      · by_cases q : k = d
        · subst q; exact pk_us
        · rw [pk_un q]; exact n3.2 k (by omega) h2
    obtain ⟨m, hm⟩ := B t2 st2 (upd ip2 d 2) (by omega) n4
    rw [e1, show 2 * 2 ^ h = 2 ^ h + 2 ^ h by omega, bz_cn_add, ← Nat.add_assoc] at hm
    refine ⟨m + 1, ?_⟩
    refine br_f (nI_nle (by omega) (by omega)) ?_
    rw [nI_pred]
    refine ⟨vp_in_nI (by omega) (by omega), ?_⟩
    rw [nI_clamp (n := d) (by omega), u4]
    refine br_t rfl (nm_r (pk_m1 d) ⟨vp_in_nI (by omega) (by omega), ?_⟩)
    rw [nI_clamp (n := d) (by omega)]
    exact nm_e hm
theorem bz_countF (hN : bz_NI w N) (he : bz_ed w N v f) (K : ∀ st ip, post (nI (bz_cn f 0 (2 ^ (3 * w)))) (nI w, nI (3 * w), nI N.1, nI tc, nI ec, nI rc, N.2.1, N.2.2.1, N.2.2.2.1, N.2.2.2.2, st, tb, te, rq, sm, pa, ip)) : wpX_countFor post (nI w, nI (3 * w), nI N.1, nI tc, nI ec, nI rc, N.2.1, N.2.2.1, N.2.2.2.1, N.2.2.2.2, st, tb, te, rq, sm, pa, ip) v := by
  have hw := hN.1
  have hy2 : 2 ^ (3 * w + 1) ≤ 2 ^ 13 := Nat.pow_le_pow_right (by decide) (by omega)
  refine loop_0 (fun n i s => wX_countFor_2 post v (nI w) (nI (3 * w)) (nI N.1) (nI tc) (nI ec) (nI rc) n (nI i) N.2.1 N.2.2.1 N.2.2.2.1 N.2.2.2.2 st tb te rq sm pa s) (fun i s => ∀ j, j < i → s j = 2) (3 * w) ip (fun j h => by omega)
    (fun n s h => ?_) (fun n i s hi h ih => ?_)
  · refine br_t (nI_le (Nat.le_refl _) (by omega)) ⟨20000 - 0, ?_⟩
    refine bz_cf30 hN he (3 * w) 0 0 0 0 0 st s (Nat.zero_mul _).symm (by omega) (by decide) (by omega) ⟨fun k h => by omega, fun k _ hk => h k hk⟩ (fun t' st' ip' _ _ => ⟨1, ?_⟩)
    rw [Nat.zero_add]
    exact br_t (by decide) (br_t rfl (K st' ip'))
  · refine br_f (nI_ge hi (by omega)) ⟨vp_in_nI (by omega) (by omega), nm_e (nm_r (nI_1 i) (ih _ ?_))⟩
    rw [nI_clamp (n := i) (by omega)]
    exact bz_fl (F := fun _ => 2) h rfl
end
section
variable {w tc ec rc : Nat} {N : bz_T} {st tb te rq sm pa ip : Nat → Int32} {post : SX → Prop}
theorem bz_setI {x : Nat} (hw : w ≤ 4) (hx : x < 2 ^ 31) (K : ∀ ip, bz_nd w (3 * w) x ip → post (nI w, nI (3 * w), nI N.1, nI tc, nI ec, nI rc, N.2.1, N.2.2.1, N.2.2.2.1, N.2.2.2.2, st, tb, te, rq, sm, pa, ip)) : wpX_setInputs post (nI w, nI (3 * w), nI N.1, nI tc, nI ec, nI rc, N.2.1, N.2.2.1, N.2.2.2.1, N.2.2.2.2, st, tb, te, rq, sm, pa, ip) (nI x) := by
  refine loop_0 (fun n i s => wX_setInputs_2 post (nI x) (nI w) (nI (3 * w)) (nI N.1) (nI tc) (nI ec) (nI rc) n (nI i) N.2.1 N.2.2.1 N.2.2.2.1 N.2.2.2.2 st tb te rq sm pa s) (fun i s => ∀ j, j < i → s j = bz_I (x.testBit (3 * w - 1 - j))) (3 * w) ip (fun j h => by omega)
    (fun n s h => ?_) (fun n i s hi h ih => ?_)
  · exact br_t (nI_le (Nat.le_refl _) (by omega)) (K s ⟨h, fun k h1 h2 => by omega⟩)
  · refine br_f (nI_ge hi (by omega)) ⟨vp_in_nI (by omega) (by omega), ?_⟩
    rw [bz_bit hw hx hi, nI_clamp (n := i) (by omega)]
    exact nm_e (nm_r (nI_1 i) (ih _ (bz_fl (F := fun j => bz_I (x.testBit (3 * w - 1 - j))) h rfl)))
/-- with all inputs set, an edge's value is what it means -/
theorem bz_F_full {x : Nat} {r : Int32} {f : Nat → Bool} (n : bz_nd w (3 * w) x ip) (h : bz_F w ip r f) : r = bz_I (f x) := by
  rcases h.2.1 x (bz_nd_cmp (h := 0) rfl n (by rw [Nat.pow_zero, Nat.div_one])) with q | q
  · exact absurd q (h.2.2 (bz_nd_full n))
  · exact q
end
end
section
/-! the reference: one entry's worth -/
def bz_jo (k x y : Int32) : Int32 := if k = 0 then x + y else if k = 1 then x - y else if k = 2 then x * y else if k = 3 then x &&& y else if k = 4 then x ||| y else x ^^^ y
def bz_wk (k a b c : Int32) : Prop := k = 6 ∨ k = 7 ∨ (vp_in a 28 ∧ (k = 8 ∨ k = 9 ∨ (vp_in b 28 ∧ (6 ≤ k → vp_in c 16))))
def bz_wv (fw k a b c x : Int32) (va tr : Nat → Int32) : Int32 :=
  if k = 6 then x >>> ((fw * (2 - a)) &&& 31) else if k = 7 then a else
  if 6 ≤ k then (if k = 8 then va a.toNatClampNeg ^^^ (-1) else if k = 9 then (if b < 0 then va a.toNatClampNeg >>> ((-b) &&& 31) else va a.toNatClampNeg <<< (b &&& 31))
    else (if tr c.toNatClampNeg = 0 then va b.toNatClampNeg else va a.toNatClampNeg))
  else bz_jo k (va a.toNatClampNeg) (va b.toNatClampNeg)
def bz_tk (k s t : Int32) : Prop := (3 ≤ k ∧ vp_in s 16 ∧ vp_in t 16) ∨ (¬ 3 ≤ k ∧ vp_in s 28 ∧ vp_in t 28)
def bz_sgn (top x : Int32) : Int32 := if 2 * x < top then x else x - top
def bz_tv (top k s t : Int32) (va tr : Nat → Int32) : Bool :=
  if 3 ≤ k then (if k = 3 then (if tr s.toNatClampNeg = 0 then false else if tr t.toNatClampNeg = 0 then false else true)
    else if k = 4 then (if tr s.toNatClampNeg = 0 then (if tr t.toNatClampNeg = 0 then false else true) else true)
    else (if tr s.toNatClampNeg = tr t.toNatClampNeg then false else true))
  else (if k = 0 then (if va s.toNatClampNeg = va t.toNatClampNeg then true else false)
    else if k = 1 then (if va t.toNatClampNeg ≤ va s.toNatClampNeg then false else true)
    else (if bz_sgn top (va t.toNatClampNeg) ≤ bz_sgn top (va s.toNatClampNeg) then false else true))
section
variable {w tc ec rc : Nat} {od kd aa bb cc so ss tt wa sg va tr : Nat → Int32}
theorem bz_joined {post : Int32 → Prop} {k x y : Int32} (K : post (bz_jo k x y)) : wpY_joined post (nI w, nI (2 ^ w), nI (2 ^ (3 * w)), nI tc, nI ec, nI rc, nI (tc + ec), od, kd, aa, bb, cc, so, ss, tt, wa, sg, va, tr) k x y := by
  unfold bz_jo at K
  refine br_c (fun h => ?_) (fun h0 => br_c (fun h => ?_) (fun h1 => br_c (fun h => ?_) (fun h2 => br_c (fun h => ?_) (fun h3 => br_c (fun h => ?_) (fun h4 => ?_)))))
  · rw [if_pos h] at K; exact K
  · rw [if_neg h0, if_pos h] at K; exact K
  · rw [if_neg h0, if_neg h1, if_pos h] at K; exact K
  · rw [if_neg h0, if_neg h1, if_neg h2, if_pos h] at K; exact K
  · rw [if_neg h0, if_neg h1, if_neg h2, if_neg h3, if_pos h] at K; exact K
  · rw [if_neg h0, if_neg h1, if_neg h2, if_neg h3, if_neg h4] at K; exact K
theorem bz_worth {post : Int32 → Prop} {i : Nat} {x : Int32} (hi : i < 28) (hk : bz_wk (kd i) (aa i) (bb i) (cc i))
    (K : post (bz_wv (nI w) (kd i) (aa i) (bb i) (cc i) x va tr)) : wpY_worth post (nI w, nI (2 ^ w), nI (2 ^ (3 * w)), nI tc, nI ec, nI rc, nI (tc + ec), od, kd, aa, bb, cc, so, ss, tt, wa, sg, va, tr) (nI i) x := by
  have hv : vp_in (nI i) 28 := vp_in_nI hi (by omega)
  have hcl : (nI i).toNatClampNeg = i := nI_clamp (by omega)
  refine ⟨hv, nm_e ?_⟩
  rw [hcl]
  unfold bz_wv at K
  refine br_c (fun h6 => ⟨hv, ?_⟩) (fun h6 => br_c (fun h7 => ⟨hv, ?_⟩) (fun h7 => ?_))
  · rw [if_pos h6] at K; exact K
  · rw [if_neg h6, if_pos h7] at K; exact K
  · rw [if_neg h6, if_neg h7] at K
    rcases hk with q | q | ⟨ha, hk⟩
    · exact absurd q h6
    · exact absurd q h7
    · refine ⟨hv, ha, nm_e (br_c (fun h => ?_) (fun h => ?_))⟩
      · rw [if_pos h] at K
        refine br_c (fun h8 => ?_) (fun h8 => br_c (fun h9 => ⟨hv, ?_⟩) (fun h9 => ?_))
        · rw [if_pos h8] at K; exact K
        · rw [if_neg h8, if_pos h9] at K
          refine br_c (fun hb => ⟨hv, ?_⟩) (fun hb => ⟨hv, ?_⟩)
          · rw [if_pos hb] at K; exact K
          · rw [if_neg hb] at K; exact K
        · rw [if_neg h8, if_neg h9] at K
          rcases hk with q | q | ⟨hb, hc⟩
          · exact absurd q h8
          · exact absurd q h9
          · refine ⟨hv, hc h, br_c (fun ht => ⟨hv, hb, ?_⟩) (fun ht => ?_)⟩
            · rw [if_pos ht] at K; exact K
            · rw [if_neg ht] at K; exact K
      · rw [if_neg h] at K
        have hb : vp_in (bb i) 28 := by
          rcases hk with q | q | ⟨hb, _⟩
          · rw [q] at h; exact absurd (by decide) h
          · rw [q] at h; exact absurd (by decide) h
          · exact hb
        exact ⟨hv, hb, bz_joined K⟩
theorem bz_signed {post : Int32 → Prop} {x : Int32} (K : post (bz_sgn (nI (2 ^ w)) x)) : wpY_signed post (nI w, nI (2 ^ w), nI (2 ^ (3 * w)), nI tc, nI ec, nI rc, nI (tc + ec), od, kd, aa, bb, cc, so, ss, tt, wa, sg, va, tr) x := by
  unfold bz_sgn at K
  refine br_c (fun h => ?_) (fun h => ?_)
  · rw [if_pos h] at K; exact K
  · rw [if_neg h] at K; exact K
theorem bz_told {post : Int32 → Prop} {i : Nat} (hi : i < 16) (hk : bz_tk (so i) (ss i) (tt i))
    (K : post (bz_I (bz_tv (nI (2 ^ w)) (so i) (ss i) (tt i) va tr))) : wpY_told post (nI w, nI (2 ^ w), nI (2 ^ (3 * w)), nI tc, nI ec, nI rc, nI (tc + ec), od, kd, aa, bb, cc, so, ss, tt, wa, sg, va, tr) (nI i) := by
  have hv : vp_in (nI i) 16 := vp_in_nI hi (by omega)
  have hcl : (nI i).toNatClampNeg = i := nI_clamp (by omega)
  refine ⟨hv, nm_e ?_⟩
  rw [hcl]
  unfold bz_tv at K
  refine br_c (fun h => ?_) (fun h => ?_)
  · rw [if_pos h] at K
    obtain ⟨h1, h2⟩ : vp_in (ss i) 16 ∧ vp_in (tt i) 16 := by
      rcases hk with q | q
      · exact q.2
      · exact absurd h q.1
    refine ⟨hv, h1, nm_e ⟨hv, h2, nm_e ?_⟩⟩
    refine br_c (fun h3 => ?_) (fun h3 => br_c (fun h4 => ?_) (fun h4 => ?_))
    · rw [if_pos h3] at K
      refine br_c (fun p => ?_) (fun p => br_c (fun q => ?_) (fun q => ?_))
      · rw [if_pos p] at K; exact K
      · rw [if_neg p, if_pos q] at K; exact K
      · rw [if_neg p, if_neg q] at K; exact K
    · rw [if_neg h3, if_pos h4] at K
      refine br_c (fun p => br_c (fun q => ?_) (fun q => ?_)) (fun p => ?_)
      · rw [if_pos p, if_pos q] at K; exact K
      · rw [if_pos p, if_neg q] at K; exact K
      · rw [if_neg p] at K; exact K
    · rw [if_neg h3, if_neg h4] at K
      refine br_c (fun p => ?_) (fun p => ?_)
      · rw [if_pos p] at K; exact K
      · rw [if_neg p] at K; exact K
  · rw [if_neg h] at K
    obtain ⟨h1, h2⟩ : vp_in (ss i) 28 ∧ vp_in (tt i) 28 := by
      rcases hk with q | q
      · exact absurd q.1 h
      · exact q.2
    refine ⟨hv, h1, nm_e ⟨hv, h2, nm_e ?_⟩⟩
    refine br_c (fun h3 => ?_) (fun h3 => br_c (fun h4 => ?_) (fun h4 => ?_))
    · rw [if_pos h3] at K
      refine br_c (fun p => ?_) (fun p => ?_)
      · rw [if_pos p] at K; exact K
      · rw [if_neg p] at K; exact K
    · rw [if_neg h3, if_pos h4] at K
      refine br_c (fun p => ?_) (fun p => ?_)
      · rw [if_pos p] at K; exact K
      · rw [if_neg p] at K; exact K
    · rw [if_neg h3, if_neg h4] at K
      refine bz_signed (bz_signed ?_)
      refine br_c (fun p => ?_) (fun p => ?_)
      · rw [if_pos p] at K; exact K
      · rw [if_neg p] at K; exact K
end
/-- an entry is right, given the values of the terms below i and the tests below j -/
def bz_tO (w : Nat) (V : Nat → Nat → Nat) (T : Nat → Nat → Bool) (i j : Nat) (nv : Nat → Nat) (k a b c : Int32) : Prop :=
  bz_wk k a b c ∧ ∀ x va tr, x < 2 ^ (3 * w) → (∀ i', i' < i → va i' = nI (V i' x)) → (∀ j', j' < j → tr j' = bz_I (T j' x)) →
    bz_wv (nI w) k a b c (nI x) va tr &&& (nI (2 ^ w) - 1) = nI (nv x)
def bz_eO (w : Nat) (V : Nat → Nat → Nat) (T : Nat → Nat → Bool) (i j : Nat) (nt : Nat → Bool) (k s t : Int32) : Prop :=
  bz_tk k s t ∧ ∀ x va tr, x < 2 ^ (3 * w) → (∀ i', i' < i → va i' = nI (V i' x)) → (∀ j', j' < j → tr j' = bz_I (T j' x)) →
    bz_tv (nI (2 ^ w)) k s t va tr = nt x
def bz_Y (w tc ec : Nat) (V : Nat → Nat → Nat) (T : Nat → Nat → Bool) (pt pe : Nat → Nat) (od kd aa bb cc so ss tt : Nat → Int32) : Prop :=
  (pt 0 = 0 ∧ pe 0 = 0) ∧ (pt (tc + ec) = tc ∧ pe (tc + ec) = ec) ∧
  ∀ m, m < tc + ec →
    (od m = nI (pt m) ∧ pt (m + 1) = pt m + 1 ∧ pe (m + 1) = pe m ∧ pt m < tc ∧ pe m ≤ ec ∧ bz_tO w V T (pt m) (pe m) (V (pt m)) (kd (pt m)) (aa (pt m)) (bb (pt m)) (cc (pt m))) ∨
    (od m = nI (100 + pe m) ∧ pt (m + 1) = pt m ∧ pe (m + 1) = pe m + 1 ∧ pe m < ec ∧ pt m ≤ tc ∧ bz_eO w V T (pt m) (pe m) (T (pe m)) (so (pe m)) (ss (pe m)) (tt (pe m)))
theorem bz_bnar (b : Bool) : vp_nar .boolean (bz_I b) = bz_I b := by cases b <;> rfl
section
variable {w tc ec rc : Nat} {od kd aa bb cc so ss tt wa sg va tr : Nat → Int32} {V : Nat → Nat → Nat} {T : Nat → Nat → Bool} {pt pe : Nat → Nat} {x : Nat}
theorem bz_work2 {post : SY → Prop} (htc : tc ≤ 28) (hec : ec ≤ 16) (hx : x < 2 ^ (3 * w)) (hY : bz_Y w tc ec V T pt pe od kd aa bb cc so ss tt)
    (K : ∀ va tr, (∀ i, i < tc → va i = nI (V i x)) → (∀ j, j < ec → tr j = bz_I (T j x)) → post (nI w, nI (2 ^ w), nI (2 ^ (3 * w)), nI tc, nI ec, nI rc, nI (tc + ec), od, kd, aa, bb, cc, so, ss, tt, wa, sg, va, tr)) :
    ∀ (m i n : Nat) (va tr : Nat → Int32), i + m = tc + ec → m < n → (∀ j, j < pt i → va j = nI (V j x)) → (∀ j, j < pe i → tr j = bz_I (T j x)) →
    wY_work_2 post (nI x) (nI w) (nI (2 ^ w)) (nI (2 ^ (3 * w))) (nI tc) (nI ec) (nI rc) (nI (tc + ec)) n (nI i) od kd aa bb cc so ss tt wa sg va tr := by
  intro m
  induction m with
  | zero =>
    intro i n va tr hi hn h1 h2
    obtain ⟨n, rfl⟩ : ∃ q, n = q + 1 := ⟨n - 1, by omega⟩
    have e : i = tc + ec := by omega
    subst e
    rw [hY.2.1.1] at h1
    rw [hY.2.1.2] at h2
    exact br_t (nI_le (Nat.le_refl _) (by omega)) (K va tr h1 h2)
  | succ m ih =>
    intro i n va tr hi hn h1 h2
    obtain ⟨n, rfl⟩ : ∃ q, n = q + 1 := ⟨n - 1, by omega⟩
    refine br_f (nI_ge (by omega) (by omega)) (br_f (nI_ge (b := 44) (by omega) (by omega)) ⟨vp_in_nI (by omega) (by omega), ?_⟩)
    rw [nI_clamp (n := i) (by omega)]
    rcases hY.2.2 i (by omega) with ⟨o, p1, p2, p3, p4, hO⟩ | ⟨o, p1, p2, p3, p4, hO⟩
    · refine nm_r o (br_f (nI_ge (b := 100) (by omega) (by omega)) ?_)
      refine bz_worth (by omega) hO.1 ⟨vp_in_nI (by omega) (by omega), ?_⟩
      rw [nI_clamp (n := pt i) (by omega), hO.2 x va tr hx h1 h2]
      refine nm_e (nm_r (nI_1 i) (ih (i + 1) n _ tr (by omega) (by omega) ?_ ?_))
      · rw [p1]
        exact bz_fl (F := fun j => nI (V j x)) h1 rfl
      · rw [p2]; exact h2
    · refine nm_r o (br_t (nI_le (a := 100) (by omega) (by omega)) ?_)
      have e : nI (100 + pe i) - 100 = nI (pe i) := by
        show nI (100 + pe i) - nI 100 = _
        rw [pk_sub (by omega)]
        exact congrArg nI (by omega)
      rw [e]
      refine bz_told (by omega) hO.1 ⟨vp_in_nI (by omega) (by omega), ?_⟩
      rw [nI_clamp (n := pe i) (by omega), hO.2 x va tr hx h1 h2, bz_bnar]
      refine nm_e (nm_r (nI_1 i) (ih (i + 1) n va _ (by omega) (by omega) ?_ ?_))
      · rw [p1]; exact h1
      · rw [p2]
        exact bz_fl (F := fun j => bz_I (T j x)) h2 rfl
theorem bz_work {post : SY → Prop} (htc : tc ≤ 28) (hec : ec ≤ 16) (hx : x < 2 ^ (3 * w)) (hY : bz_Y w tc ec V T pt pe od kd aa bb cc so ss tt)
    (K : ∀ va tr, (∀ i, i < tc → va i = nI (V i x)) → (∀ j, j < ec → tr j = bz_I (T j x)) → post (nI w, nI (2 ^ w), nI (2 ^ (3 * w)), nI tc, nI ec, nI rc, nI (tc + ec), od, kd, aa, bb, cc, so, ss, tt, wa, sg, va, tr)) : wpY_work post (nI w, nI (2 ^ w), nI (2 ^ (3 * w)), nI tc, nI ec, nI rc, nI (tc + ec), od, kd, aa, bb, cc, so, ss, tt, wa, sg, va, tr) (nI x) :=
  ⟨tc + ec + 1, bz_work2 htc hec hx hY K (tc + ec) 0 (tc + ec + 1) va tr (by omega) (by omega) (by rw [hY.1.1]; exact fun j h => by omega) (by rw [hY.1.2]; exact fun j h => by omega)⟩
theorem bz_all_f {Q : Nat → Nat → Bool} {i k : Nat} (hi : i < k) (h : Q i x = false) : bz_all Q k x = false := by
  induction k with
  | zero => omega
  | succ k ih =>
    show (bz_all Q k x && Q k x) = false
    by_cases q : i = k
    · subst q; rw [h, Bool.and_false]
    · rw [ih (by omega)]; rfl
/-- the requirements, as the reference keeps them -/
def bz_Q (rc ec : Nat) (T Q : Nat → Nat → Bool) (wa sg : Nat → Int32) : Prop :=
  ∀ k, k < rc → ∃ j s, j < ec ∧ wa k = nI j ∧ sg k = bz_I s ∧ ∀ x, Q k x = (T j x == s)
theorem bz_sol7 {post : Int32 → SY → Prop} {Q : Nat → Nat → Bool} (hrc : rc ≤ 10) (hec : ec ≤ 16) (hQ : bz_Q rc ec T Q wa sg)
    (ht : ∀ j, j < ec → tr j = bz_I (T j x)) (K : post (bz_I (bz_all Q rc x)) (nI w, nI (2 ^ w), nI (2 ^ (3 * w)), nI tc, nI ec, nI rc, nI (tc + ec), od, kd, aa, bb, cc, so, ss, tt, wa, sg, va, tr)) :
    ∀ (m i n : Nat), i + m = rc → m < n → bz_all Q i x = true → wY_solution_7 post (nI w) (nI (2 ^ w)) (nI (2 ^ (3 * w))) (nI tc) (nI ec) (nI rc) (nI (tc + ec)) od kd aa bb cc so ss tt wa sg va tr n (nI i) := by
  intro m
  induction m with
  | zero =>
    intro i n hi hn h
    obtain ⟨n, rfl⟩ : ∃ q, n = q + 1 := ⟨n - 1, by omega⟩
    have e : i = rc := by omega
    subst e
    rw [h] at K
    exact br_t (nI_le (Nat.le_refl _) (by omega)) K
  | succ m ih =>
    intro i n hi hn h
    obtain ⟨n, rfl⟩ : ∃ q, n = q + 1 := ⟨n - 1, by omega⟩
    obtain ⟨j, s, hj, e1, e2, e3⟩ := hQ i (by omega)
    refine br_f (nI_ge (by omega) (by omega)) (br_f (nI_ge (b := 10) (by omega) (by omega)) ⟨vp_in_nI (by omega) (by omega), ?_⟩)
    rw [nI_clamp (n := i) (by omega), e1, e2, nI_clamp (n := j) (by omega), ht j hj]
    refine ⟨vp_in_nI (by omega) (by omega), vp_in_nI (by omega) (by omega), br_c (fun q => ?_) (fun q => ?_)⟩
    · refine nm_r (nI_1 i) (ih (i + 1) n (by omega) (by omega) ?_)
      show (bz_all Q i x && Q i x) = true
      rw [h, e3, bz_I_inj q]; simp
    · have hf : Q i x = false := by
        rw [e3]
        have : T j x ≠ s := fun z => q (by rw [z])
        simpa using this
      rw [bz_all_f (by omega) hf] at K
      exact K
theorem bz_sol {post : Int32 → SY → Prop} {Q : Nat → Nat → Bool} (htc : tc ≤ 28) (hrc : rc ≤ 10) (hec : ec ≤ 16) (hx : x < 2 ^ (3 * w)) (hY : bz_Y w tc ec V T pt pe od kd aa bb cc so ss tt) (hQ : bz_Q rc ec T Q wa sg)
    (K : ∀ va tr, (∀ i, i < tc → va i = nI (V i x)) → (∀ j, j < ec → tr j = bz_I (T j x)) → post (bz_I (bz_all Q rc x)) (nI w, nI (2 ^ w), nI (2 ^ (3 * w)), nI tc, nI ec, nI rc, nI (tc + ec), od, kd, aa, bb, cc, so, ss, tt, wa, sg, va, tr)) : wpY_solution post (nI w, nI (2 ^ w), nI (2 ^ (3 * w)), nI tc, nI ec, nI rc, nI (tc + ec), od, kd, aa, bb, cc, so, ss, tt, wa, sg, va, tr) (nI x) :=
  bz_work htc hec hx hY (fun va tr h1 h2 => ⟨rc + 1, bz_sol7 hrc hec hQ h2 (K va tr h1 h2) rc 0 (rc + 1) (by omega) (by omega) rfl⟩)
end
end
section
/-! the reference's questions -/
def bz_YQ (w tc ec rc : Nat) (V : Nat → Nat → Nat) (T Q : Nat → Nat → Bool) (pt pe : Nat → Nat) (od kd aa bb cc so ss tt wa sg : Nat → Int32) : Prop :=
  (1 ≤ w ∧ w ≤ 4) ∧ tc ≤ 28 ∧ ec ≤ 16 ∧ rc ≤ 10 ∧ bz_Y w tc ec V T pt pe od kd aa bb cc so ss tt ∧ bz_Q rc ec T Q wa sg
theorem bz_p12 {w : Nat} (hw : w ≤ 4) : 2 ^ (3 * w) ≤ 4096 := by
  have : 2 ^ (3 * w) ≤ 2 ^ 12 := Nat.pow_le_pow_right (by decide) (by omega)
  omega
section
variable {w tc ec rc : Nat} {od kd aa bb cc so ss tt wa sg va tr : Nat → Int32} {V : Nat → Nat → Nat} {T Q : Nat → Nat → Bool} {pt pe : Nat → Nat} {post : Int32 → SY → Prop}
theorem bz_after2 (h : bz_YQ w tc ec rc V T Q pt pe od kd aa bb cc so ss tt wa sg) {y : Int32} {lo : Nat} (hlo : ∀ x, x < 2 ^ (3 * w) → (nI x ≤ y ↔ x < lo))
    (K : ∀ r va tr, bz_LI (bz_all Q rc) lo (2 ^ (3 * w)) r → post r (nI w, nI (2 ^ w), nI (2 ^ (3 * w)), nI tc, nI ec, nI rc, nI (tc + ec), od, kd, aa, bb, cc, so, ss, tt, wa, sg, va, tr)) : ∀ (m i n : Nat) (va tr : Nat → Int32), i + m = 2 ^ (3 * w) → m < n → (∀ z, lo ≤ z → z < i → bz_all Q rc z = false) →
    wY_after_2 post y n (nI i) (nI w) (nI (2 ^ w)) (nI (2 ^ (3 * w))) (nI tc) (nI ec) (nI rc) (nI (tc + ec)) od kd aa bb cc so ss tt wa sg va tr := by
  have hp := bz_p12 h.1.2
  intro m
  induction m with
  | zero =>
    intro i n va tr hi hn hf
    obtain ⟨n, rfl⟩ : ∃ q, n = q + 1 := ⟨n - 1, by omega⟩
    have e : i = 2 ^ (3 * w) := by omega
    subst e
    exact br_t (nI_le (Nat.le_refl _) (by omega)) (K _ va tr (Or.inl ⟨rfl, hf⟩))
  | succ m ih =>
    intro i n va tr hi hn hf
    obtain ⟨n, rfl⟩ : ∃ q, n = q + 1 := ⟨n - 1, by omega⟩
    refine br_f (nI_ge (by omega) (by omega)) (ek_if (hlo i (by omega)) (fun q => ?_) (fun q => ?_))
    · exact nm_r (nI_1 i) (ih (i + 1) n va tr (by omega) (by omega) (fun z h1 h2 => by omega))
    · refine bz_sol h.2.1 h.2.2.2.1 h.2.2.1 (by omega) h.2.2.2.2.1 h.2.2.2.2.2 (fun va tr _ _ => ?_)
      by_cases s : bz_all Q rc i = true
      · rw [s]
        exact br_f (by decide) (K _ va tr (Or.inr ⟨i, rfl, by omega, by omega, s, hf⟩))
      · have s' : bz_all Q rc i = false := by simpa using s
        rw [s']
        refine br_t rfl (nm_r (nI_1 i) (ih (i + 1) n va tr (by omega) (by omega) (fun z h1 h2 => ?_)))
        by_cases e : z = i
        · rw [e]; exact s'
        · exact hf z h1 (by omega)
theorem bz_after (h : bz_YQ w tc ec rc V T Q pt pe od kd aa bb cc so ss tt wa sg) {y : Int32} {lo : Nat} (hlo : ∀ x, x < 2 ^ (3 * w) → (nI x ≤ y ↔ x < lo))
    (K : ∀ r va tr, bz_LI (bz_all Q rc) lo (2 ^ (3 * w)) r → post r (nI w, nI (2 ^ w), nI (2 ^ (3 * w)), nI tc, nI ec, nI rc, nI (tc + ec), od, kd, aa, bb, cc, so, ss, tt, wa, sg, va, tr)) : wpY_after post (nI w, nI (2 ^ w), nI (2 ^ (3 * w)), nI tc, nI ec, nI rc, nI (tc + ec), od, kd, aa, bb, cc, so, ss, tt, wa, sg, va, tr) y :=
  ⟨2 ^ (3 * w) + 1, bz_after2 h hlo K (2 ^ (3 * w)) 0 _ va tr (by omega) (by omega) (fun z _ h2 => by omega)⟩
theorem bz_count4 (h : bz_YQ w tc ec rc V T Q pt pe od kd aa bb cc so ss tt wa sg)
    (K : ∀ va tr, post (nI (bz_cn (bz_all Q rc) 0 (2 ^ (3 * w)))) (nI w, nI (2 ^ w), nI (2 ^ (3 * w)), nI tc, nI ec, nI rc, nI (tc + ec), od, kd, aa, bb, cc, so, ss, tt, wa, sg, va, tr)) : ∀ (m i n : Nat) (va tr : Nat → Int32), i + m = 2 ^ (3 * w) → m < n →
    wY_count_4 post n (nI (bz_cn (bz_all Q rc) 0 i)) (nI i) (nI w) (nI (2 ^ w)) (nI (2 ^ (3 * w))) (nI tc) (nI ec) (nI rc) (nI (tc + ec)) od kd aa bb cc so ss tt wa sg va tr := by
  have hp := bz_p12 h.1.2
  intro m
  induction m with
  | zero =>
    intro i n va tr hi hn
    obtain ⟨n, rfl⟩ : ∃ q, n = q + 1 := ⟨n - 1, by omega⟩
    have e : i = 2 ^ (3 * w) := by omega
    subst e
    exact br_t (nI_le (Nat.le_refl _) (by omega)) (K va tr)
  | succ m ih =>
    intro i n va tr hi hn
    obtain ⟨n, rfl⟩ : ∃ q, n = q + 1 := ⟨n - 1, by omega⟩
    refine br_f (nI_ge (by omega) (by omega)) ?_
    refine bz_sol h.2.1 h.2.2.2.1 h.2.2.1 (by omega) h.2.2.2.2.1 h.2.2.2.2.2 (fun va tr _ _ => ?_)
    have ih' := ih (i + 1) n va tr (by omega) (by omega)
    have e : bz_cn (bz_all Q rc) 0 (i + 1) = bz_cn (bz_all Q rc) 0 i + (bz_all Q rc i).toNat := by
      show bz_cn (bz_all Q rc) 0 i + (bz_all Q rc (0 + i)).toNat = _
      rw [Nat.zero_add]
    rw [e] at ih'
    by_cases s : bz_all Q rc i = true
    · rw [s] at ih' ⊢
      exact br_f (by decide) (nm_r (nI_1 _) (nm_r (nI_1 i) ih'))
    · have s' : bz_all Q rc i = false := by simpa using s
      rw [s'] at ih' ⊢
      exact br_t rfl (nm_r (nI_1 i) ih')
theorem bz_ycount (h : bz_YQ w tc ec rc V T Q pt pe od kd aa bb cc so ss tt wa sg)
    (K : ∀ va tr, post (nI (bz_cn (bz_all Q rc) 0 (2 ^ (3 * w)))) (nI w, nI (2 ^ w), nI (2 ^ (3 * w)), nI tc, nI ec, nI rc, nI (tc + ec), od, kd, aa, bb, cc, so, ss, tt, wa, sg, va, tr)) : wpY_count post (nI w, nI (2 ^ w), nI (2 ^ (3 * w)), nI tc, nI ec, nI rc, nI (tc + ec), od, kd, aa, bb, cc, so, ss, tt, wa, sg, va, tr) :=
  ⟨2 ^ (3 * w) + 1, bz_count4 h K (2 ^ (3 * w)) 0 _ va tr (by omega) (by omega)⟩
/-- m is the extreme value of c where f holds, among the numbers below i: the greatest if b, else the least -/
def bz_Em (b : Bool) (f : Nat → Bool) (c : Nat → Nat) (i m : Nat) : Prop :=
  (∃ x, x < i ∧ f x = true ∧ c x = m) ∧ ∀ x, x < i → f x = true → (b = true → c x ≤ m) ∧ (b = false → m ≤ c x)
def bz_E (b : Bool) (f : Nat → Bool) (c : Nat → Nat) (i : Nat) (r : Int32) : Prop :=
  (r = -2 ∧ ∀ x, x < i → f x = false) ∨ ∃ m, r = nI m ∧ bz_Em b f c i m
theorem bz_E_skip {b : Bool} {f : Nat → Bool} {c : Nat → Nat} {i : Nat} {r : Int32} (h : bz_E b f c i r) (s : f i = false) : bz_E b f c (i + 1) r := by
  rcases h with ⟨e, h⟩ | ⟨m, e, ⟨x, h1, h2, h3⟩, h4⟩
  · refine Or.inl ⟨e, fun x hx => ?_⟩
    by_cases q : x = i
    · rw [q]; exact s
    · exact h x (by omega)
  · refine Or.inr ⟨m, e, ⟨x, by omega, h2, h3⟩, fun y hy fy => ?_⟩
    by_cases q : y = i
    · rw [q, s] at fy; cases fy
    · exact h4 y (by omega) fy
theorem bz_Em_keep {b : Bool} {f : Nat → Bool} {c : Nat → Nat} {i m : Nat} (h : bz_Em b f c i m) (k : (b = true → c i ≤ m) ∧ (b = false → m ≤ c i)) : bz_Em b f c (i + 1) m := by
  obtain ⟨⟨x, h1, h2, h3⟩, h4⟩ := h
  refine ⟨⟨x, by omega, h2, h3⟩, fun y hy fy => ?_⟩
  by_cases q : y = i
  · subst q; exact k
  · exact h4 y (by omega) fy
theorem bz_Em_new {b : Bool} {f : Nat → Bool} {c : Nat → Nat} {i : Nat} (s : f i = true) (h : ∀ x, x < i → f x = true → (b = true → c x ≤ c i) ∧ (b = false → c i ≤ c x)) : bz_Em b f c (i + 1) (c i) := by
  refine ⟨⟨i, by omega, s, rfl⟩, fun y hy fy => ?_⟩
  by_cases q : y = i
  · subst q; exact ⟨fun _ => Nat.le_refl _, fun _ => Nat.le_refl _⟩
  · exact h y (by omega) fy
theorem bz_E_uq {b : Bool} {f : Nat → Bool} {c : Nat → Nat} {i : Nat} {r r' : Int32} (h : bz_E b f c i r) (h' : bz_E b f c i r') : r = r' := by
  rcases h with ⟨e, h⟩ | ⟨m, e, ⟨x, h1, h2, h3⟩, h4⟩
  · rcases h' with ⟨e', _⟩ | ⟨m', e', ⟨x', h1', h2', h3'⟩, h4'⟩
    · rw [e, e']
    · rw [h x' h1'] at h2'; cases h2'
  · rcases h' with ⟨e', h'⟩ | ⟨m', e', ⟨x', h1', h2', h3'⟩, h4'⟩
    · rw [h' x h1] at h2; cases h2
    · rw [e, e']
      have a := h4 x' h1' h2'
      have a' := h4' x h1 h2
      cases b
      · have := a.2 rfl; have := a'.2 rfl
        exact congrArg nI (by omega)
      · have := a.1 rfl; have := a'.1 rfl
        exact congrArg nI (by omega)
theorem bz_ext16 (h : bz_YQ w tc ec rc V T Q pt pe od kd aa bb cc so ss tt wa sg) {t : Nat} {b : Bool} (ht : t < tc) (hV : ∀ x, V t x < 2 ^ w)
    (K : ∀ r va tr, bz_E b (bz_all Q rc) (V t) (2 ^ (3 * w)) r → post r (nI w, nI (2 ^ w), nI (2 ^ (3 * w)), nI tc, nI ec, nI rc, nI (tc + ec), od, kd, aa, bb, cc, so, ss, tt, wa, sg, va, tr)) : ∀ (m i n : Nat) (r : Int32) (va tr : Nat → Int32), i + m = 2 ^ (3 * w) → m < n → bz_E b (bz_all Q rc) (V t) i r →
    wY_extreme_16 post (nI t) (bz_I (!b)) n r (nI i) (nI w) (nI (2 ^ w)) (nI (2 ^ (3 * w))) (nI tc) (nI ec) (nI rc) (nI (tc + ec)) od kd aa bb cc so ss tt wa sg va tr := by
  have hp := bz_p12 h.1.2
  have hw2 : 2 ^ w ≤ 2 ^ 4 := Nat.pow_le_pow_right (by decide) h.1.2
  have htc := h.2.1
  intro m
  induction m with
  | zero =>
    intro i n r va tr hi hn hE
    obtain ⟨n, rfl⟩ : ∃ q, n = q + 1 := ⟨n - 1, by omega⟩
    have e : i = 2 ^ (3 * w) := by omega
    subst e
    exact br_t (nI_le (Nat.le_refl _) (by omega)) (K r va tr hE)
  | succ m ih =>
    intro i n r va tr hi hn hE
    obtain ⟨n, rfl⟩ : ∃ q, n = q + 1 := ⟨n - 1, by omega⟩
    refine br_f (nI_ge (by omega) (by omega)) ?_
    refine bz_sol h.2.1 h.2.2.2.1 h.2.2.1 (by omega) h.2.2.2.2.1 h.2.2.2.2.2 (fun va tr hva _ => ?_)
    by_cases s : bz_all Q rc i = true
    · rw [s]
      have hvi := hV i
      refine br_f (by decide) ⟨vp_in_nI (by omega) (by omega), ?_⟩
      rw [nI_clamp (n := t) (by omega), hva t ht]
      refine nm_e ?_
      rcases hE with ⟨rfl, hf⟩ | ⟨q, rfl, hq⟩
      · refine br_t (by decide) (nm_r (nI_1 i) (ih (i + 1) n _ va tr (by omega) (by omega) (Or.inr ⟨_, rfl, bz_Em_new s (fun x hx fx => ?_)⟩)))
        rw [hf x hx] at fx; cases fx
      · obtain ⟨x0, x1, x2, x3⟩ := hq.1
        have hvx := hV x0
        refine br_f (nI_pos (by omega)) ?_
        cases b with
        | true =>
          refine br_t rfl (ek_if (nI_leI (by omega) (by omega)) (fun z => ?_) (fun z => ?_))
          · exact nm_r (nI_1 i) (ih (i + 1) n _ va tr (by omega) (by omega) (Or.inr ⟨q, rfl, bz_Em_keep hq ⟨fun _ => z, fun y => by cases y⟩⟩))
          · refine nm_r (nI_1 i) (ih (i + 1) n _ va tr (by omega) (by omega) (Or.inr ⟨_, rfl, bz_Em_new s (fun x hx fx => ⟨fun _ => ?_, fun y => by cases y⟩)⟩))
            have := (hq.2 x hx fx).1 rfl
            omega
        | false =>
          refine br_f (by decide) (ek_if (nI_leI (by omega) (by omega)) (fun z => ?_) (fun z => ?_))
          · exact nm_r (nI_1 i) (ih (i + 1) n _ va tr (by omega) (by omega) (Or.inr ⟨q, rfl, bz_Em_keep hq ⟨fun y => (by cases y), fun _ => z⟩⟩))
          · refine nm_r (nI_1 i) (ih (i + 1) n _ va tr (by omega) (by omega) (Or.inr ⟨_, rfl, bz_Em_new s (fun x hx fx => ⟨fun y => (by cases y), fun _ => ?_⟩)⟩))
            have := (hq.2 x hx fx).2 rfl
            omega
    · have s' : bz_all Q rc i = false := by simpa using s
      rw [s']
      exact br_t rfl (nm_r (nI_1 i) (ih (i + 1) n r va tr (by omega) (by omega) (bz_E_skip hE s')))
/-- whether f and g hold together somewhere below i -/
def bz_any (f : Nat → Bool) (g : Nat → Bool) : Nat → Bool
  | 0 => false
  | i + 1 => bz_any f g i || (f i && g i)
theorem bz_any_f {f g : Nat → Bool} {i : Nat} : bz_any f g i = false ↔ ∀ x, x < i → (f x && g x) = false := by
  induction i with
  | zero => exact ⟨fun _ x h => by omega, fun _ => rfl⟩
  | succ i ih =>
    show (bz_any f g i || (f i && g i)) = false ↔ _
    rw [Bool.or_eq_false_iff, ih]
    refine ⟨fun h x hx => ?_, fun h => ⟨fun x hx => h x (by omega), h i (by omega)⟩⟩
    by_cases q : x = i
    · rw [q]; exact h.2
    · exact h.1 x (by omega)
theorem bz_fol17 (h : bz_YQ w tc ec rc V T Q pt pe od kd aa bb cc so ss tt wa sg) {t : Nat} (ht : t < ec)
    (K : ∀ va tr, post (if bz_any (bz_all Q rc) (fun x => !T t x) (2 ^ (3 * w)) = false then 1 else if bz_any (bz_all Q rc) (T t) (2 ^ (3 * w)) = false then 0 else 2) (nI w, nI (2 ^ w), nI (2 ^ (3 * w)), nI tc, nI ec, nI rc, nI (tc + ec), od, kd, aa, bb, cc, so, ss, tt, wa, sg, va, tr)) :
    ∀ (m i n : Nat) (va tr : Nat → Int32), i + m = 2 ^ (3 * w) → m < n →
    wY_follows_17 post (nI t) n (bz_I (bz_any (bz_all Q rc) (T t) i)) (bz_I (bz_any (bz_all Q rc) (fun x => !T t x) i)) (nI i) (nI w) (nI (2 ^ w)) (nI (2 ^ (3 * w))) (nI tc) (nI ec) (nI rc) (nI (tc + ec)) od kd aa bb cc so ss tt wa sg va tr := by
  have hp := bz_p12 h.1.2
  have hec := h.2.2.1
  intro m
  induction m with
  | zero =>
    intro i n va tr hi hn
    obtain ⟨n, rfl⟩ : ∃ q, n = q + 1 := ⟨n - 1, by omega⟩
    have e : i = 2 ^ (3 * w) := by omega
    subst e
    refine br_t (nI_le (Nat.le_refl _) (by omega)) ?_
    have K' := K va tr
    generalize bz_any (bz_all Q rc) (fun x => !T t x) (2 ^ (3 * w)) = no at *
    generalize bz_any (bz_all Q rc) (T t) (2 ^ (3 * w)) = yes at *
    cases no with
    | false => exact br_t rfl K'
    | true =>
      refine br_f (by decide) ?_
      cases yes with
      | false => exact br_t rfl K'
      | true => exact br_f (by decide) K'
  | succ m ih =>
    intro i n va tr hi hn
    obtain ⟨n, rfl⟩ : ∃ q, n = q + 1 := ⟨n - 1, by omega⟩
    refine br_f (nI_ge (by omega) (by omega)) ?_
    refine bz_sol h.2.1 h.2.2.2.1 h.2.2.1 (by omega) h.2.2.2.2.1 h.2.2.2.2.2 (fun va tr _ htr => ?_)
    have ih' := ih (i + 1) n va tr (by omega) (by omega)
    have e1 : bz_any (bz_all Q rc) (T t) (i + 1) = (bz_any (bz_all Q rc) (T t) i || (bz_all Q rc i && T t i)) := rfl
    have e2 : bz_any (bz_all Q rc) (fun x => !T t x) (i + 1) = (bz_any (bz_all Q rc) (fun x => !T t x) i || (bz_all Q rc i && !T t i)) := rfl
    rw [e1, e2] at ih'
    by_cases s : bz_all Q rc i = true
    · rw [s] at ih' ⊢
      refine br_f (by decide) ⟨vp_in_nI (by omega) (by omega), ?_⟩
      rw [nI_clamp (n := t) (by omega), htr t ht]
      by_cases z : T t i = true
      · rw [z] at ih' ⊢
        refine br_f (by decide) (nm_r (nI_1 i) ?_)
        rw [show (bz_any (bz_all Q rc) (T t) i || (true && true)) = true from Bool.or_true _, show (bz_any (bz_all Q rc) (fun x => !T t x) i || (true && !true)) = bz_any (bz_all Q rc) (fun x => !T t x) i from Bool.or_false _] at ih'
        exact ih'
      · have z' : T t i = false := by simpa using z
        rw [z'] at ih' ⊢
        refine br_t rfl (nm_r (nI_1 i) ?_)
        rw [show (bz_any (bz_all Q rc) (T t) i || (true && false)) = bz_any (bz_all Q rc) (T t) i from Bool.or_false _, show (bz_any (bz_all Q rc) (fun x => !T t x) i || (true && !false)) = true from Bool.or_true _] at ih'
        exact ih'
    · have s' : bz_all Q rc i = false := by simpa using s
      rw [s'] at ih' ⊢
      rw [show (bz_any (bz_all Q rc) (T t) i || (false && T t i)) = bz_any (bz_all Q rc) (T t) i from Bool.or_false _, show (bz_any (bz_all Q rc) (fun x => !T t x) i || (false && !T t i)) = bz_any (bz_all Q rc) (fun x => !T t x) i from Bool.or_false _] at ih'
      exact br_t rfl (nm_r (nI_1 i) ih')
theorem bz_same20 (h : bz_YQ w tc ec rc V T Q pt pe od kd aa bb cc so ss tt wa sg) {a b : Nat} (ha : a < tc) (hb : b < tc) (hVa : ∀ x, V a x < 2 ^ w) (hVb : ∀ x, V b x < 2 ^ w)
    (K1 : (∀ x, x < 2 ^ (3 * w) → V a x = V b x) → ∀ va tr, post 1 (nI w, nI (2 ^ w), nI (2 ^ (3 * w)), nI tc, nI ec, nI rc, nI (tc + ec), od, kd, aa, bb, cc, so, ss, tt, wa, sg, va, tr)) (K0 : ∀ x, x < 2 ^ (3 * w) → V a x ≠ V b x → ∀ va tr, post 0 (nI w, nI (2 ^ w), nI (2 ^ (3 * w)), nI tc, nI ec, nI rc, nI (tc + ec), od, kd, aa, bb, cc, so, ss, tt, wa, sg, va, tr)) :
    ∀ (m i n : Nat) (va tr : Nat → Int32), i + m = 2 ^ (3 * w) → m < n → (∀ x, x < i → V a x = V b x) →
    wY_same_20 post (nI a) (nI b) n (nI i) (nI w) (nI (2 ^ w)) (nI (2 ^ (3 * w))) (nI tc) (nI ec) (nI rc) (nI (tc + ec)) od kd aa bb cc so ss tt wa sg va tr := by
  have hp := bz_p12 h.1.2
  have htc := h.2.1
  have hw2 : 2 ^ w ≤ 2 ^ 4 := Nat.pow_le_pow_right (by decide) h.1.2
  intro m
  induction m with
  | zero =>
    intro i n va tr hi hn hf
    obtain ⟨n, rfl⟩ : ∃ q, n = q + 1 := ⟨n - 1, by omega⟩
    have e : i = 2 ^ (3 * w) := by omega
    subst e
    exact br_t (nI_le (Nat.le_refl _) (by omega)) (K1 hf va tr)
  | succ m ih =>
    intro i n va tr hi hn hf
    obtain ⟨n, rfl⟩ : ∃ q, n = q + 1 := ⟨n - 1, by omega⟩
    refine br_f (nI_ge (by omega) (by omega)) ?_
    refine bz_work h.2.1 h.2.2.1 (by omega) h.2.2.2.2.1 (fun va tr hva _ => ⟨vp_in_nI (by omega) (by omega), vp_in_nI (by omega) (by omega), ?_⟩)
    have h1 := hVa i
    have h2 := hVb i
    rw [nI_clamp (n := a) (by omega), nI_clamp (n := b) (by omega), hva a ha, hva b hb]
    refine ek_if (nI_eq (by omega) (by omega)) (fun q => ?_) (fun q => K0 i (by omega) q va tr)
    refine nm_r (nI_1 i) (ih (i + 1) n va tr (by omega) (by omega) (fun x hx => ?_))
    by_cases z : x = i
    · rw [z]; exact q
    · exact hf x (by omega)
end
end
section
/-! the relation -/
def bz_R (w tc ec rc : Nat) (N : bz_T) (V : Nat → Nat → Nat) (T Q : Nat → Nat → Bool) (pt pe : Nat → Nat) (tb te rq od kd aa bb cc so ss tt wa sg : Nat → Int32) : Prop :=
  bz_NI w N ∧ N.1 ≤ 13 + 160 * tc + 24 * ec ∧
  (∀ i, i < tc → ∀ x, V i x < 2 ^ w) ∧
  (∀ i, i < tc → ∀ j, j < w → bz_ed w N (tb (4 * i + j)) (fun x => (V i x).testBit j)) ∧
  (∀ j, j < ec → bz_ed w N (te j) (T j)) ∧
  (∀ k, k < rc → bz_ed w N (rq k) (Q k)) ∧
  bz_YQ w tc ec rc V T Q pt pe od kd aa bb cc so ss tt wa sg
/-- the relation at the head of a turn -/
def i_Rel (k : Nat) (u : SX) (v : SY) : Prop :=
  ∃ (w tc ec rc : Nat) (N : bz_T) (V : Nat → Nat → Nat) (T Q : Nat → Nat → Bool) (pt pe : Nat → Nat) (st tb te rq sm pa ip od kd aa bb cc so ss tt wa sg va tr : Nat → Int32),
    u = (nI w, nI (3 * w), nI N.1, nI tc, nI ec, nI rc, N.2.1, N.2.2.1, N.2.2.2.1, N.2.2.2.2, st, tb, te, rq, sm, pa, ip) ∧ v = (nI w, nI (2 ^ w), nI (2 ^ (3 * w)), nI tc, nI ec, nI rc, nI (tc + ec), od, kd, aa, bb, cc, so, ss, tt, wa, sg, va, tr) ∧ bz_R w tc ec rc N V T Q pt pe tb te rq od kd aa bb cc so ss tt wa sg
theorem bz_el {P : SX → SY → Prop} {k : Nat} {u : SX} {v : SY}
    (h : ∀ (w tc ec rc : Nat) (N : bz_T) (V : Nat → Nat → Nat) (T Q : Nat → Nat → Bool) (pt pe : Nat → Nat) (st tb te rq sm pa ip od kd aa bb cc so ss tt wa sg va tr : Nat → Int32),
      bz_R w tc ec rc N V T Q pt pe tb te rq od kd aa bb cc so ss tt wa sg → P (nI w, nI (3 * w), nI N.1, nI tc, nI ec, nI rc, N.2.1, N.2.2.1, N.2.2.2.1, N.2.2.2.2, st, tb, te, rq, sm, pa, ip) (nI w, nI (2 ^ w), nI (2 ^ (3 * w)), nI tc, nI ec, nI rc, nI (tc + ec), od, kd, aa, bb, cc, so, ss, tt, wa, sg, va, tr)) (I : i_Rel k u v) : P u v := by
  obtain ⟨w, tc, ec, rc, N, V, T, Q, pt, pe, st, tb, te, rq, sm, pa, ip, od, kd, aa, bb, cc, so, ss, tt, wa, sg, va, tr, e1, e2, hR⟩ := I
  rw [e1, e2]
  exact h w tc ec rc N V T Q pt pe st tb te rq sm pa ip od kd aa bb cc so ss tt wa sg va tr hR
section
variable {w tc ec rc : Nat} {N N' : bz_T} {V : Nat → Nat → Nat} {T Q : Nat → Nat → Bool} {pt pe : Nat → Nat} {st tb te rq sm pa ip od kd aa bb cc so ss tt wa sg va tr : Nat → Int32}
theorem bz_in (k : Nat) (h : bz_R w tc ec rc N V T Q pt pe tb te rq od kd aa bb cc so ss tt wa sg) : i_Rel k (nI w, nI (3 * w), nI N.1, nI tc, nI ec, nI rc, N.2.1, N.2.2.1, N.2.2.2.1, N.2.2.2.2, st, tb, te, rq, sm, pa, ip) (nI w, nI (2 ^ w), nI (2 ^ (3 * w)), nI tc, nI ec, nI rc, nI (tc + ec), od, kd, aa, bb, cc, so, ss, tt, wa, sg, va, tr) :=
  ⟨w, tc, ec, rc, N, V, T, Q, pt, pe, st, tb, te, rq, sm, pa, ip, od, kd, aa, bb, cc, so, ss, tt, wa, sg, va, tr, rfl, rfl, h⟩
/-- a question takes its gates back -/
theorem bz_R_X (h : bz_R w tc ec rc N V T Q pt pe tb te rq od kd aa bb cc so ss tt wa sg) (hX : bz_X w N N') (e : N'.1 = N.1) :
    bz_R w tc ec rc N' V T Q pt pe tb te rq od kd aa bb cc so ss tt wa sg := by
  obtain ⟨_, h1, h2, h3, h4, h5, h6⟩ := h
  exact ⟨hX.1, by omega, h2, fun i hi j hj => bz_ed_X hX (h3 i hi j hj), fun j hj => bz_ed_X hX (h4 j hj), fun k hk => bz_ed_X hX (h5 k hk), h6⟩
theorem bz_tO_V {V' : Nat → Nat → Nat} {T' : Nat → Nat → Bool} {i j : Nat} {nv : Nat → Nat} {k a b c : Int32} (hV : ∀ i', i' < i → V' i' = V i') (hT : ∀ j', j' < j → T' j' = T j')
    (h : bz_tO w V T i j nv k a b c) : bz_tO w V' T' i j nv k a b c :=
  ⟨h.1, fun x va tr hx h1 h2 => h.2 x va tr hx (fun i' hi => by rw [h1 i' hi, hV i' hi]) (fun j' hj => by rw [h2 j' hj, hT j' hj])⟩
theorem bz_eO_V {V' : Nat → Nat → Nat} {T' : Nat → Nat → Bool} {i j : Nat} {nt : Nat → Bool} {k s t : Int32} (hV : ∀ i', i' < i → V' i' = V i') (hT : ∀ j', j' < j → T' j' = T j')
    (h : bz_eO w V T i j nt k s t) : bz_eO w V' T' i j nt k s t :=
  ⟨h.1, fun x va tr hx h1 h2 => h.2 x va tr hx (fun i' hi => by rw [h1 i' hi, hV i' hi]) (fun j' hj => by rw [h2 j' hj, hT j' hj])⟩
theorem bz_addT {tb' : Nat → Int32} {nv : Nat → Nat} {k a b c : Int32} (h : bz_R w tc ec rc N V T Q pt pe tb te rq od kd aa bb cc so ss tt wa sg) (htc : tc < 28)
    (hn : bz_nw w tc N N' tb tb' nv) (hv : ∀ x, nv x < 2 ^ w) (hO : bz_tO w V T tc ec nv k a b c) :
    bz_R w (tc + 1) ec rc N' (fun i => if i = tc then nv else V i) T Q (fun m => if m ≤ tc + ec then pt m else tc + 1) (fun m => if m ≤ tc + ec then pe m else ec) tb' te rq
      (upd od (tc + ec) (nI tc)) (upd kd tc k) (upd aa tc a) (upd bb tc b) (upd cc tc c) so ss tt wa sg := by
  obtain ⟨_, h1, h2, h3, h4, h5, h6⟩ := h
  obtain ⟨hX, g1, g2, g3⟩ := hn
  obtain ⟨w0, w1, w2, w3, ⟨⟨y0, y1⟩, ⟨y2, y3⟩, y4⟩, w5⟩ := h6
  refine ⟨hX.1, by omega, fun i hi x => ?_, fun i hi j hj => ?_, fun j hj => bz_ed_X hX (h4 j hj), fun k hk => bz_ed_X hX (h5 k hk), w0, by omega, w2, w3, ⟨⟨?_, ?_⟩, ⟨?_, ?_⟩, fun m hm => ?_⟩, w5⟩
  all_goals try dsimp only
  · by_cases q : i = tc
    · rw [if_pos q]; exact hv x
    · rw [if_neg q]; exact h2 i (by omega) x
  · by_cases q : i = tc
    · subst q; rw [if_pos rfl]; exact g2 j hj
    · rw [if_neg q, g3 (4 * i + j) (by omega)]; exact bz_ed_X hX (h3 i (by omega) j hj)
  · rw [if_pos (by omega)]; exact y0
  · rw [if_pos (by omega)]; exact y1
  · rw [if_neg (by omega)]
  · rw [if_neg (by omega)]
  · by_cases q : m = tc + ec
    · subst q
      left
      rw [if_pos (Nat.le_refl _), if_pos (Nat.le_refl _), if_neg (by omega), if_neg (by omega), y2, y3, pk_us, pk_us, pk_us, pk_us, pk_us, if_pos rfl]
      exact ⟨rfl, rfl, rfl, by omega, by omega, bz_tO_V (fun i' hi => if_neg (by omega)) (fun _ _ => rfl) hO⟩
    · have e1 : (if m ≤ tc + ec then pt m else tc + 1) = pt m := if_pos (by omega)
      have e2 : (if m ≤ tc + ec then pe m else ec) = pe m := if_pos (by omega)
      have e3 : (if m + 1 ≤ tc + ec then pt (m + 1) else tc + 1) = pt (m + 1) := if_pos (by omega)
      have e4 : (if m + 1 ≤ tc + ec then pe (m + 1) else ec) = pe (m + 1) := if_pos (by omega)
      rw [e1, e2, e3, e4, pk_un q]
      rcases y4 m (by omega) with ⟨o, p1, p2, p3, p4, hO'⟩ | ⟨o, p1, p2, p3, p4, hO'⟩
      · left
        rw [pk_un (by omega), pk_un (by omega), pk_un (by omega), pk_un (by omega), if_neg (by omega)]
        exact ⟨o, p1, p2, by omega, p4, bz_tO_V (fun i' hi => if_neg (by omega)) (fun _ _ => rfl) hO'⟩
      · right
        exact ⟨o, p1, p2, p3, by omega, bz_eO_V (fun i' hi => if_neg (by omega)) (fun _ _ => rfl) hO'⟩
theorem bz_addE {e : Int32} {nt : Nat → Bool} {k s t : Int32} (h : bz_R w tc ec rc N V T Q pt pe tb te rq od kd aa bb cc so ss tt wa sg) (hec : ec < 16)
    (hX : bz_X w N N') (hG : N'.1 ≤ N.1 + 24) (he : bz_ed w N' e nt) (hO : bz_eO w V T tc ec nt k s t) :
    bz_R w tc (ec + 1) rc N' V (fun j => if j = ec then nt else T j) Q (fun m => if m ≤ tc + ec then pt m else tc) (fun m => if m ≤ tc + ec then pe m else ec + 1) tb (upd te ec e) rq
      (upd od (tc + ec) (nI (100 + ec))) kd aa bb cc (upd so ec k) (upd ss ec s) (upd tt ec t) wa sg := by
  obtain ⟨_, h1, h2, h3, h4, h5, h6⟩ := h
  obtain ⟨w0, w1, w2, w3, ⟨⟨y0, y1⟩, ⟨y2, y3⟩, y4⟩, w5⟩ := h6
  refine ⟨hX.1, by omega, h2, fun i hi j hj => bz_ed_X hX (h3 i hi j hj), fun j hj => ?_, fun k hk => bz_ed_X hX (h5 k hk), w0, w1, by omega, w3, ⟨⟨?_, ?_⟩, ⟨?_, ?_⟩, fun m hm => ?_⟩, fun k hk => ?_⟩
  all_goals try dsimp only
  · by_cases q : j = ec
    · subst q; rw [if_pos rfl, pk_us]; exact he
    · rw [if_neg q, pk_un q]; exact bz_ed_X hX (h4 j (by omega))
  · rw [if_pos (by omega)]; exact y0
  · rw [if_pos (by omega)]; exact y1
  · rw [if_neg (by omega)]
  · rw [if_neg (by omega)]
  · by_cases q : m = tc + ec
    · subst q
      right
      rw [if_pos (Nat.le_refl _), if_pos (Nat.le_refl _), if_neg (by omega), if_neg (by omega), y2, y3, pk_us, pk_us, pk_us, pk_us, if_pos rfl]
      exact ⟨rfl, rfl, rfl, by omega, by omega, bz_eO_V (fun _ _ => rfl) (fun i' hi => if_neg (by omega)) hO⟩
    · have e1 : (if m ≤ tc + ec then pt m else tc) = pt m := if_pos (by omega)
      have e2 : (if m ≤ tc + ec then pe m else ec + 1) = pe m := if_pos (by omega)
      have e3 : (if m + 1 ≤ tc + ec then pt (m + 1) else tc) = pt (m + 1) := if_pos (by omega)
      have e4 : (if m + 1 ≤ tc + ec then pe (m + 1) else ec + 1) = pe (m + 1) := if_pos (by omega)
      rw [e1, e2, e3, e4, pk_un q]
      rcases y4 m (by omega) with ⟨o, p1, p2, p3, p4, hO'⟩ | ⟨o, p1, p2, p3, p4, hO'⟩
      · left
        exact ⟨o, p1, p2, p3, by omega, bz_tO_V (fun _ _ => rfl) (fun i' hi => if_neg (by omega)) hO'⟩
      · right
        rw [pk_un (by omega), pk_un (by omega), pk_un (by omega), if_neg (by omega)]
        exact ⟨o, p1, p2, by omega, p4, bz_eO_V (fun _ _ => rfl) (fun i' hi => if_neg (by omega)) hO'⟩
  · obtain ⟨j, s, hj, e1, e2, e3⟩ := w5 k hk
    refine ⟨j, s, by omega, e1, e2, fun x => ?_⟩
    rw [if_neg (by omega)]; exact e3 x
theorem bz_yterm {post : Int32 → SY → Prop} {k a b c : Int32} (htc : tc < 28) (hec : ec ≤ 16)
    (K : post (nI tc) (nI w, nI (2 ^ w), nI (2 ^ (3 * w)), nI (tc + 1), nI ec, nI rc, nI (tc + 1 + ec), upd od (tc + ec) (nI tc), upd kd tc k, upd aa tc a, upd bb tc b, upd cc tc c, so, ss, tt, wa, sg, va, tr)) :
    wpY_term post (nI w, nI (2 ^ w), nI (2 ^ (3 * w)), nI tc, nI ec, nI rc, nI (tc + ec), od, kd, aa, bb, cc, so, ss, tt, wa, sg, va, tr) k a b c := by
  have hv : vp_in (nI tc) 28 := vp_in_nI htc (by omega)
  refine br_t (nI_le (b := 27) (by omega) (by omega)) ?_
  rw [nI_clamp (n := tc) (by omega), nI_clamp (n := tc + ec) (by omega)]
  refine ⟨hv, nm_e ⟨hv, nm_e ⟨hv, nm_e ⟨hv, nm_e ⟨vp_in_nI (by omega) (by omega), nm_e (nm_r (e' := nI (tc + 1 + ec)) ?_ (nm_r (nI_1 tc) K))⟩⟩⟩⟩⟩
  rw [nI_1]
  exact congrArg nI (by omega)
theorem bz_yterm2 {post : Int32 → SY → Prop} {k a b c : Int32} (K : post (-2) (nI w, nI (2 ^ w), nI (2 ^ (3 * w)), nI 28, nI ec, nI rc, nI (tc + ec), od, kd, aa, bb, cc, so, ss, tt, wa, sg, va, tr)) : wpY_term post (nI w, nI (2 ^ w), nI (2 ^ (3 * w)), nI 28, nI ec, nI rc, nI (tc + ec), od, kd, aa, bb, cc, so, ss, tt, wa, sg, va, tr) k a b c :=
  br_f (by decide) K
theorem bz_ytest {post : Int32 → SY → Prop} {k a b : Int32} (htc : tc ≤ 28) (hec : ec < 16)
    (K : post (nI ec) (nI w, nI (2 ^ w), nI (2 ^ (3 * w)), nI tc, nI (ec + 1), nI rc, nI (tc + (ec + 1)), upd od (tc + ec) (nI (100 + ec)), kd, aa, bb, cc, upd so ec k, upd ss ec a, upd tt ec b, wa, sg, va, tr)) :
    wpY_test post (nI w, nI (2 ^ w), nI (2 ^ (3 * w)), nI tc, nI ec, nI rc, nI (tc + ec), od, kd, aa, bb, cc, so, ss, tt, wa, sg, va, tr) k a b := by
  have hv : vp_in (nI ec) 16 := vp_in_nI hec (by omega)
  refine br_t (nI_le (b := 15) (by omega) (by omega)) ?_
  have e : (100 : Int32) + nI ec = nI (100 + ec) := nI_add 100 ec
  rw [nI_clamp (n := ec) (by omega), nI_clamp (n := tc + ec) (by omega), e]
  exact ⟨hv, nm_e ⟨hv, nm_e ⟨hv, nm_e ⟨vp_in_nI (by omega) (by omega), nm_e (nm_r (nI_1 (tc + ec)) (nm_r (nI_1 ec) K))⟩⟩⟩⟩
end
end
section
/-! what the reference reckons for a new entry -/
theorem bz_mask {w : Nat} (hw : w ≤ 4) (x : Int32) : x &&& (nI (2 ^ w) - 1) = nI (x.toBitVec.toNat % 2 ^ w) :=
  pk_and x w ((by decide +kernel : ∀ w, w < 5 → (nI (2 ^ w) - 1).toBitVec.toNat = 2 ^ w - 1) w (by omega))
theorem bz_maskN {w m : Nat} (hw : w ≤ 4) (hm : m < 2 ^ 31) : nI m &&& (nI (2 ^ w) - 1) = nI (m % 2 ^ w) := by
  rw [bz_mask hw, pk_tn (by omega)]
theorem bz_j0 : ∀ w, w < 5 → ∀ a, a < 16 → ∀ b, b < 16 → bz_jo 0 (nI a) (nI b) &&& (nI (2 ^ w) - 1) = nI ((a + b) % 2 ^ w) := by decide +kernel
theorem bz_j1 : ∀ w, w < 5 → ∀ a, a < 2 ^ w → ∀ b, b < 2 ^ w → bz_jo 1 (nI a) (nI b) &&& (nI (2 ^ w) - 1) = nI ((a + (2 ^ w - b)) % 2 ^ w) := by decide +kernel
theorem bz_j2 : ∀ w, w < 5 → ∀ a, a < 16 → ∀ b, b < 16 → bz_jo 2 (nI a) (nI b) &&& (nI (2 ^ w) - 1) = nI ((a * b) % 2 ^ w) := by decide +kernel
theorem bz_j3 : ∀ w, w < 5 → ∀ a, a < 2 ^ w → ∀ b, b < 2 ^ w → bz_jo 3 (nI a) (nI b) &&& (nI (2 ^ w) - 1) = nI (a &&& b) ∧ a &&& b < 2 ^ w := by decide +kernel
theorem bz_j4 : ∀ w, w < 5 → ∀ a, a < 2 ^ w → ∀ b, b < 2 ^ w → bz_jo 4 (nI a) (nI b) &&& (nI (2 ^ w) - 1) = nI (a ||| b) ∧ a ||| b < 2 ^ w := by decide +kernel
theorem bz_j5 : ∀ w, w < 5 → ∀ a, a < 2 ^ w → ∀ b, b < 2 ^ w → bz_jo 5 (nI a) (nI b) &&& (nI (2 ^ w) - 1) = nI (a ^^^ b) ∧ a ^^^ b < 2 ^ w := by decide +kernel
theorem bz_jb {k w a b : Nat} (hk : 3 ≤ k) (hk2 : k ≤ 5) (hw : w ≤ 4) (ha : a < 2 ^ w) (hb : b < 2 ^ w) :
    bz_jo (nI k) (nI a) (nI b) &&& (nI (2 ^ w) - 1) = nI (bz_bo k a b) ∧ bz_bo k a b < 2 ^ w := by
  rcases (show k = 3 ∨ k = 4 ∨ k = 5 by omega) with rfl | rfl | rfl
  · exact bz_j3 w (by omega) a ha b hb
  · exact bz_j4 w (by omega) a ha b hb
  · exact bz_j5 w (by omega) a ha b hb
theorem bz_j8 : ∀ w, w < 5 → ∀ a, a < 2 ^ w → (nI a ^^^ (-1)) &&& (nI (2 ^ w) - 1) = nI (2 ^ w - (a + 1)) := by decide +kernel
theorem bz_jl : ∀ w, w < 5 → ∀ a, a < 2 ^ w → ∀ b, b < 2 ^ w → (if nI b ≤ nI a then false else true) = bz_ls (bz_tn false w) (fun j => a.testBit j) (fun j => b.testBit j) w := by decide +kernel
theorem bz_js : ∀ w, w < 5 → ∀ a, a < 2 ^ w → ∀ b, b < 2 ^ w → 1 ≤ w → (if bz_sgn (nI (2 ^ w)) (nI b) ≤ bz_sgn (nI (2 ^ w)) (nI a) then false else true) = bz_ls (bz_tn true w) (fun j => a.testBit j) (fun j => b.testBit j) w := by decide +kernel
theorem bz_2w {w : Nat} (hw : w ≤ 4) : 2 ^ w ≤ 16 := by
  have : 2 ^ w ≤ 2 ^ 4 := Nat.pow_le_pow_right (by decide) hw
  omega
section
variable {w i j a b t v : Nat} {V : Nat → Nat → Nat} {T : Nat → Nat → Bool} {nv : Nat → Nat}
theorem bz_tO_v (hw : w ≤ 4) (hv : v < 3) : bz_tO w V T i j (fun x => x / 2 ^ (w * (2 - v)) % 2 ^ w) 6 (nI v) 0 0 := by
  refine ⟨Or.inl rfl, fun x va tr hx _ _ => ?_⟩
  have hp := bz_p12 hw
  have h8 : w * (2 - v) ≤ 4 * 2 := Nat.mul_le_mul hw (by omega)
  have e : nI w * (2 - nI v) = nI (w * (2 - v)) := by
    show nI w * (nI 2 - nI v) = _
    rw [pk_sub (by omega), pk_mul]
  unfold bz_wv
  rw [if_pos rfl, e, pk_shrN (by omega) _ _ (s_l _ (by omega)), bz_maskN hw (Nat.lt_of_le_of_lt (Nat.div_le_self _ _) (by omega))]
theorem bz_tO_k (hw : w ≤ 4) (c : Int32) : bz_tO w V T i j (fun _ => c.toBitVec.toNat % 2 ^ w) 7 (c &&& (nI (2 ^ w) - 1)) 0 0 := by
  refine ⟨Or.inr (Or.inl rfl), fun x va tr hx _ _ => ?_⟩
  have h2 := bz_2w hw
  have hm : c.toBitVec.toNat % 2 ^ w < 2 ^ w := Nat.mod_lt _ (Nat.two_pow_pos w)
  unfold bz_wv
  rw [if_neg (by decide), if_pos rfl, bz_mask hw c, bz_maskN hw (by omega), Nat.mod_mod]
theorem bz_tO_n (hw : w ≤ 4) (ha : a < 28) (hi : a < i) (hA : ∀ x, V a x < 2 ^ w) : bz_tO w V T i j (fun x => 2 ^ w - (V a x + 1)) 8 (nI a) 0 0 := by
  refine ⟨Or.inr (Or.inr ⟨vp_in_nI ha (by omega), Or.inl rfl⟩), fun x va tr hx h1 _ => ?_⟩
  unfold bz_wv
  rw [if_neg (by decide), if_neg (by decide), if_pos (by decide), if_pos rfl, nI_clamp (by omega), h1 a hi]
  exact bz_j8 w (by omega) _ (hA x)
theorem bz_tO_l {c : Nat} (hw : w ≤ 4) (ha : a < 28) (hi : a < i) (hc : c ≤ 4) (hA : ∀ x, V a x < 2 ^ w) : bz_tO w V T i j (fun x => V a x * 2 ^ c % 2 ^ w) 9 (nI a) (nI c) 0 := by
  refine ⟨Or.inr (Or.inr ⟨vp_in_nI ha (by omega), Or.inr (Or.inl rfl)⟩), fun x va tr hx h1 _ => ?_⟩
  have h2 := bz_2w hw
  have hA := hA x
  have hc2 : 2 ^ c ≤ 2 ^ 4 := Nat.pow_le_pow_right (by decide) hc
  have hm : V a x * 2 ^ c ≤ 16 * 2 ^ 4 := Nat.mul_le_mul (by omega) hc2
  unfold bz_wv
  rw [if_neg (by decide), if_neg (by decide), if_pos (by decide), if_neg (by decide), if_pos rfl, if_neg (nI_pos (by omega)), nI_clamp (by omega), h1 a hi]
  rw [pk_shlN _ c (s_l c (by omega)) (by omega), bz_maskN hw (by omega)]
theorem bz_tO_r {c : Nat} (hw : w ≤ 4) (ha : a < 28) (hi : a < i) (h0 : 0 < c) (hc : c ≤ 4) (hA : ∀ x, V a x < 2 ^ w) : bz_tO w V T i j (fun x => V a x / 2 ^ c) 9 (nI a) (-nI c) 0 := by
  refine ⟨Or.inr (Or.inr ⟨vp_in_nI ha (by omega), Or.inr (Or.inl rfl)⟩), fun x va tr hx h1 _ => ?_⟩
  have h2 := bz_2w hw
  have hA := hA x
  have hd : V a x / 2 ^ c ≤ V a x := Nat.div_le_self _ _
  have hn : -nI c < 0 := (by decide : ∀ c, c < 5 → 0 < c → -nI c < 0) c (by omega) h0
  unfold bz_wv
  rw [if_neg (by decide), if_neg (by decide), if_pos (by decide), if_neg (by decide), if_pos rfl, if_pos hn, nI_clamp (by omega), h1 a hi, Int32.neg_neg]
  rw [pk_shrN (by omega) _ c (s_l c (by omega)), bz_maskN hw (by omega), Nat.mod_eq_of_lt (by omega)]
theorem bz_tO_i (hw : w ≤ 4) (ha : a < 28) (hb : b < 28) (ht : t < 16) (hai : a < i) (hbi : b < i) (htj : t < j) (hA : ∀ x, V a x < 2 ^ w) (hB : ∀ x, V b x < 2 ^ w) :
    bz_tO w V T i j (fun x => if T t x = true then V a x else V b x) 10 (nI a) (nI b) (nI t) := by
  refine ⟨Or.inr (Or.inr ⟨vp_in_nI ha (by omega), Or.inr (Or.inr ⟨vp_in_nI hb (by omega), fun _ => vp_in_nI ht (by omega)⟩)⟩), fun x va tr hx h1 h2 => ?_⟩
  have h3 := bz_2w hw
  have hA := hA x
  have hB := hB x
  unfold bz_wv
  rw [if_neg (by decide), if_neg (by decide), if_pos (by decide), if_neg (by decide), if_neg (by decide), nI_clamp (n := a) (by omega), nI_clamp (n := b) (by omega), nI_clamp (n := t) (by omega), h1 a hai, h1 b hbi, h2 t htj]
  dsimp only
  cases T t x
  · rw [if_pos (show bz_I false = 0 from rfl), if_neg (by decide), bz_maskN hw (by omega), Nat.mod_eq_of_lt hB]
  · rw [if_neg (by decide), if_pos rfl, bz_maskN hw (by omega), Nat.mod_eq_of_lt hA]
theorem bz_tO_c {k : Nat} (hk : k < 6) (ha : a < 28) (hb : b < 28) (hai : a < i) (hbi : b < i)
    (J : ∀ x, bz_jo (nI k) (nI (V a x)) (nI (V b x)) &&& (nI (2 ^ w) - 1) = nI (nv x)) : bz_tO w V T i j nv (nI k) (nI a) (nI b) 0 := by
  have h6 : ¬ (6 : Int32) ≤ nI k := nI_ge (b := 6) hk (by omega)
  refine ⟨Or.inr (Or.inr ⟨vp_in_nI ha (by omega), Or.inr (Or.inr ⟨vp_in_nI hb (by omega), fun h => absurd h h6⟩)⟩), fun x va tr hx h1 h2 => ?_⟩
  have e6 : ¬ nI k = 6 := fun e => by have := (nI_eq (b := 6) (by omega) (by omega)).mp e; omega
  have e7 : ¬ nI k = 7 := fun e => by have := (nI_eq (b := 7) (by omega) (by omega)).mp e; omega
  unfold bz_wv
  rw [if_neg e6, if_neg e7, if_neg h6, nI_clamp (n := a) (by omega), nI_clamp (n := b) (by omega), h1 a hai, h1 b hbi]
  exact J x
theorem bz_eO_e (hw : w ≤ 4) (ha : a < 28) (hb : b < 28) (hai : a < i) (hbi : b < i) (hA : ∀ x, V a x < 2 ^ w) (hB : ∀ x, V b x < 2 ^ w) :
    bz_eO w V T i j (fun x => decide (V a x = V b x)) 0 (nI a) (nI b) := by
  refine ⟨Or.inr ⟨by decide, vp_in_nI ha (by omega), vp_in_nI hb (by omega)⟩, fun x va tr hx h1 h2 => ?_⟩
  have h3 := bz_2w hw
  have hA := hA x
  have hB := hB x
  unfold bz_tv
  rw [if_neg (by decide), if_pos rfl, nI_clamp (n := a) (by omega), nI_clamp (n := b) (by omega), h1 a hai, h1 b hbi]
  dsimp only
  by_cases q : V a x = V b x
  · rw [q, if_pos rfl, decide_eq_true rfl]
  · rw [if_neg (fun e => q ((nI_eq (by omega) (by omega)).mp e)), decide_eq_false q]
theorem bz_eO_l {sg : Bool} (hw1 : 1 ≤ w) (hw : w ≤ 4) (ha : a < 28) (hb : b < 28) (hai : a < i) (hbi : b < i) (hA : ∀ x, V a x < 2 ^ w) (hB : ∀ x, V b x < 2 ^ w) :
    bz_eO w V T i j (fun x => bz_ls (bz_tn sg w) (fun j => (V a x).testBit j) (fun j => (V b x).testBit j) w) (if sg = true then 2 else 1) (nI a) (nI b) := by
  refine ⟨Or.inr ⟨by cases sg <;> decide, vp_in_nI ha (by omega), vp_in_nI hb (by omega)⟩, fun x va tr hx h1 h2 => ?_⟩
  unfold bz_tv
  rw [nI_clamp (n := a) (by omega), nI_clamp (n := b) (by omega), h1 a hai, h1 b hbi]
  cases sg with
  | false =>
    rw [if_neg (by decide), if_neg (by decide), if_pos (by decide)]
    exact bz_jl w (by omega) _ (hA x) _ (hB x)
  | true =>
    rw [if_neg (by decide), if_neg (by decide), if_neg (by decide)]
    exact bz_js w (by omega) _ (hA x) _ (hB x) hw1
/-- and, or, xor of tests -/
def bz_bc (k : Nat) (p q : Bool) : Bool := if k = 0 then p && q else if k = 1 then p || q else p ^^ q
theorem bz_eO_c {k : Nat} (hk : k < 3) (ha : a < 16) (hb : b < 16) (hai : a < j) (hbi : b < j) :
    bz_eO w V T i j (fun x => bz_bc k (T a x) (T b x)) (nI k + 3) (nI a) (nI b) := by
  have e : nI k + 3 = nI (k + 3) := nI_add k 3
  rw [e]
  have h3 : (3 : Int32) ≤ nI (k + 3) := nI_le (a := 3) (by omega) (by omega)
  refine ⟨Or.inl ⟨h3, vp_in_nI ha (by omega), vp_in_nI hb (by omega)⟩, fun x va tr hx h1 h2 => ?_⟩
  unfold bz_tv
  rw [if_pos h3, nI_clamp (n := a) (by omega), nI_clamp (n := b) (by omega), h2 a hai, h2 b hbi]
  dsimp only
  rcases (show k = 0 ∨ k = 1 ∨ k = 2 by omega) with rfl | rfl | rfl <;> cases T a x <;> cases T b x <;> decide
end
/-! guards -/
theorem bz_ge {x : Int32} {n m : Nat} (hn : n < 2 ^ 31) (hm : m < n) (h : nI n ≤ x) : ¬ x < 0 ∧ ¬ x ≤ nI m := by
  rw [Int32.le_iff_toInt_le, nI_toInt hn] at h
  rw [Int32.lt_iff_toInt_lt, Int32.le_iff_toInt_le, nI_toInt (by omega), show (0 : Int32).toInt = 0 from by decide]
  omega
section
variable {w tc ec rc : Nat} {N : bz_T} {st tb te rq sm pa ip od kd aa bb cc so ss tt wa sg va tr : Nat → Int32} {post : Int32 → Prop} {p : Int32} {j : Nat}
theorem bz_xT0 (h : p < 0 ∨ nI tc ≤ p) (K : post 0) : wpX_isTerm post (nI w, nI (3 * w), nI N.1, nI tc, nI ec, nI rc, N.2.1, N.2.2.1, N.2.2.2.1, N.2.2.2.2, st, tb, te, rq, sm, pa, ip) p := by
  by_cases q : p < 0
  · exact br_t q K
  · exact br_f q (br_t (h.resolve_left q) K)
theorem bz_xT1 (htc : tc ≤ 28) (hj : j < tc) (K : post 1) : wpX_isTerm post (nI w, nI (3 * w), nI N.1, nI tc, nI ec, nI rc, N.2.1, N.2.2.1, N.2.2.2.1, N.2.2.2.2, st, tb, te, rq, sm, pa, ip) (nI j) :=
  br_f (nI_pos (by omega)) (br_f (nI_ge hj (by omega)) K)
theorem bz_xE0 (h : p < 0 ∨ nI ec ≤ p) (K : post 0) : wpX_isTest post (nI w, nI (3 * w), nI N.1, nI tc, nI ec, nI rc, N.2.1, N.2.2.1, N.2.2.2.1, N.2.2.2.2, st, tb, te, rq, sm, pa, ip) p := by
  by_cases q : p < 0
  · exact br_t q K
  · exact br_f q (br_t (h.resolve_left q) K)
theorem bz_xE1 (hec : ec ≤ 16) (hj : j < ec) (K : post 1) : wpX_isTest post (nI w, nI (3 * w), nI N.1, nI tc, nI ec, nI rc, N.2.1, N.2.2.1, N.2.2.2.1, N.2.2.2.2, st, tb, te, rq, sm, pa, ip) (nI j) :=
  br_f (nI_pos (by omega)) (br_f (nI_ge hj (by omega)) K)
theorem bz_yT0 (h : p < 0 ∨ nI tc ≤ p) (K : post 1) : wpY_badTerm post (nI w, nI (2 ^ w), nI (2 ^ (3 * w)), nI tc, nI ec, nI rc, nI (tc + ec), od, kd, aa, bb, cc, so, ss, tt, wa, sg, va, tr) p := by
  by_cases q : p < 0
  · exact br_t q K
  · exact br_f q (br_t (h.resolve_left q) K)
theorem bz_yT1 (htc : tc ≤ 28) (hj : j < tc) (K : post 0) : wpY_badTerm post (nI w, nI (2 ^ w), nI (2 ^ (3 * w)), nI tc, nI ec, nI rc, nI (tc + ec), od, kd, aa, bb, cc, so, ss, tt, wa, sg, va, tr) (nI j) :=
  br_f (nI_pos (by omega)) (br_f (nI_ge hj (by omega)) (br_t (nI_le (b := 27) (by omega) (by omega)) K))
theorem bz_yE0 (h : p < 0 ∨ nI ec ≤ p) (K : post 1) : wpY_badTest post (nI w, nI (2 ^ w), nI (2 ^ (3 * w)), nI tc, nI ec, nI rc, nI (tc + ec), od, kd, aa, bb, cc, so, ss, tt, wa, sg, va, tr) p := by
  by_cases q : p < 0
  · exact br_t q K
  · exact br_f q (br_t (h.resolve_left q) K)
theorem bz_yE1 (hec : ec ≤ 16) (hj : j < ec) (K : post 0) : wpY_badTest post (nI w, nI (2 ^ w), nI (2 ^ (3 * w)), nI tc, nI ec, nI rc, nI (tc + ec), od, kd, aa, bb, cc, so, ss, tt, wa, sg, va, tr) (nI j) :=
  br_f (nI_pos (by omega)) (br_f (nI_ge hj (by omega)) (br_t (nI_le (b := 15) (by omega) (by omega)) K))
theorem bz_ok (p : Int32) {n : Nat} (hn : n < 2 ^ 31) : (p < 0 ∨ nI n ≤ p) ∨ ∃ j, j < n ∧ p = nI j := by
  rcases pk_ix p hn with h | h | h
  · exact Or.inl (Or.inl h)
  · exact Or.inl (Or.inr h)
  · exact Or.inr h
theorem bz_ne {a b : Nat} (h : a ≠ b) (ha : a < 2 ^ 31) (hb : b < 2 ^ 31) : ¬ nI a = nI b := fun e => h ((nI_eq ha hb).mp e)
end
end
section
/-! the makers, both sides -/
theorem bz_sh (x : Int32) : x < -4 ∨ (¬ x < -4 ∧ ¬ x ≤ 4) ∨ (¬ x < -4 ∧ x ≤ 4 ∧ ((∃ c, c ≤ 4 ∧ x = nI c) ∨ ∃ c, 0 < c ∧ c ≤ 4 ∧ x = -nI c)) := by
  by_cases h : x < -4
  · exact Or.inl h
  · by_cases h2 : x ≤ 4
    · refine Or.inr (Or.inr ⟨h, h2, ?_⟩)
      by_cases h0 : x < 0
      · right
        rw [Int32.lt_iff_toInt_lt, show (-4 : Int32).toInt = -4 from by decide] at h
        rw [Int32.lt_iff_toInt_lt, show (0 : Int32).toInt = 0 from by decide] at h0
        rcases (show x.toInt = -1 ∨ x.toInt = -2 ∨ x.toInt = -3 ∨ x.toInt = -4 by omega) with e | e | e | e
        · exact ⟨1, by omega, by omega, Int32.toInt_inj.mp (by rw [e]; decide)⟩
        · exact ⟨2, by omega, by omega, Int32.toInt_inj.mp (by rw [e]; decide)⟩
        · exact ⟨3, by omega, by omega, Int32.toInt_inj.mp (by rw [e]; decide)⟩
        · exact ⟨4, by omega, by omega, Int32.toInt_inj.mp (by rw [e]; decide)⟩
      · left
        exact nI_of2 (n := 4) (by decide) h0 h2
    · exact Or.inr (Or.inl ⟨h, h2⟩)
section
variable {w tc ec rc : Nat} {N N' : bz_T} {V : Nat → Nat → Nat} {T Q : Nat → Nat → Bool} {pt pe : Nat → Nat} {st tb te rq sm pa ip od kd aa bb cc so ss tt wa sg va tr : Nat → Int32}
theorem bz_Rb (R : bz_R w tc ec rc N V T Q pt pe tb te rq od kd aa bb cc so ss tt wa sg) : (1 ≤ w ∧ w ≤ 4) ∧ tc ≤ 28 ∧ ec ≤ 16 ∧ rc ≤ 10 := ⟨R.1.1, R.2.2.2.2.2.2.2.1, R.2.2.2.2.2.2.2.2.1, R.2.2.2.2.2.2.2.2.2.1⟩
theorem bz_m_variable (k : Nat) (v1 : Int32) (R : bz_R w tc ec rc N V T Q pt pe tb te rq od kd aa bb cc so ss tt wa sg) : wpX_variable (fun r u' => wpY_variable (fun r' v' => r' = r ∧ i_Rel k u' v') (nI w, nI (2 ^ w), nI (2 ^ (3 * w)), nI tc, nI ec, nI rc, nI (tc + ec), od, kd, aa, bb, cc, so, ss, tt, wa, sg, va, tr) v1) (nI w, nI (3 * w), nI N.1, nI tc, nI ec, nI rc, N.2.1, N.2.2.1, N.2.2.2.1, N.2.2.2.2, st, tb, te, rq, sm, pa, ip) v1 := by
  obtain ⟨hw, htc, hec, hrc⟩ := bz_Rb R
  rcases pk_ix v1 (n := 3) (by omega) with h | h | ⟨v, hv, rfl⟩
  · exact br_t h (br_t h ⟨rfl, bz_in k R⟩)
  · obtain ⟨h0, h2⟩ := bz_ge (m := 2) (by omega) (by omega) h
    exact br_f h0 (br_f h2 (br_f h0 (br_f h2 ⟨rfl, bz_in k R⟩)))
  · have h0 : ¬ nI v < 0 := nI_pos (by omega)
    have h2 : nI v ≤ 2 := nI_le (b := 2) (by omega) (by omega)
    by_cases q : tc < 28
    · refine br_f h0 (br_t h2 (br_f (bz_ne (b := 28) (by omega) (by omega) (by omega)) (bz_xvar R.1 q hv (fun N' tb' sm' pa' hn => ?_))))
      exact br_f h0 (br_t h2 (bz_yterm q hec ⟨rfl, bz_in k (bz_addT R q hn (fun x => Nat.mod_lt _ (Nat.two_pow_pos w)) (bz_tO_v hw.2 hv))⟩))
    · have e : tc = 28 := by omega
      subst e
      exact br_f h0 (br_t h2 (br_t rfl (br_f h0 (br_t h2 (br_f (by decide) ⟨rfl, bz_in k R⟩)))))
theorem bz_m_constant (k : Nat) (v1 : Int32) (R : bz_R w tc ec rc N V T Q pt pe tb te rq od kd aa bb cc so ss tt wa sg) : wpX_constant (fun r u' => wpY_constant (fun r' v' => r' = r ∧ i_Rel k u' v') (nI w, nI (2 ^ w), nI (2 ^ (3 * w)), nI tc, nI ec, nI rc, nI (tc + ec), od, kd, aa, bb, cc, so, ss, tt, wa, sg, va, tr) v1) (nI w, nI (3 * w), nI N.1, nI tc, nI ec, nI rc, N.2.1, N.2.2.1, N.2.2.2.1, N.2.2.2.2, st, tb, te, rq, sm, pa, ip) v1 := by
  obtain ⟨hw, htc, hec, hrc⟩ := bz_Rb R
  unfold wpX_constant wpY_constant
  dsimp only
  by_cases q : tc < 28
  · refine br_f (bz_ne (b := 28) (by omega) (by omega) (by omega)) (bz_xcon R.1 q (fun N' tb' sm' pa' hn => ?_))
    exact bz_yterm q hec ⟨rfl, bz_in k (bz_addT R q hn (fun x => Nat.mod_lt _ (Nat.two_pow_pos w)) (bz_tO_k hw.2 v1))⟩
  · have e : tc = 28 := by omega
    subst e
    exact br_t rfl (bz_yterm2 ⟨rfl, bz_in k R⟩)
theorem bz_m_invert (k : Nat) (v1 : Int32) (R : bz_R w tc ec rc N V T Q pt pe tb te rq od kd aa bb cc so ss tt wa sg) : wpX_invert (fun r u' => wpY_invert (fun r' v' => r' = r ∧ i_Rel k u' v') (nI w, nI (2 ^ w), nI (2 ^ (3 * w)), nI tc, nI ec, nI rc, nI (tc + ec), od, kd, aa, bb, cc, so, ss, tt, wa, sg, va, tr) v1) (nI w, nI (3 * w), nI N.1, nI tc, nI ec, nI rc, N.2.1, N.2.2.1, N.2.2.2.1, N.2.2.2.2, st, tb, te, rq, sm, pa, ip) v1 := by
  obtain ⟨hw, htc, hec, hrc⟩ := bz_Rb R
  by_cases q : tc < 28
  · have h28 : ¬ nI tc = 28 := bz_ne (b := 28) (by omega) (by omega) (by omega)
    have h27 : nI tc ≤ 27 := nI_le (b := 27) (by omega) (by omega)
    rcases bz_ok v1 (n := tc) (by omega) with h | ⟨a, ha, rfl⟩
    · exact br_f h28 (bz_xT0 h (br_t rfl (br_t h27 (bz_yT0 h (br_f (by decide) ⟨rfl, bz_in k R⟩)))))
    · refine br_f h28 (bz_xT1 htc ha (br_f (by decide) (bz_xinv R.1 q (by omega) (R.2.2.1 a ha) (R.2.2.2.1 a ha) (fun N' tb' sm' pa' hn => ?_))))
      refine br_t h27 (bz_yT1 htc ha (br_t rfl (bz_yterm q hec ⟨rfl, bz_in k (bz_addT R q hn (fun x => ?_) (bz_tO_n hw.2 (by omega) ha (R.2.2.1 a ha)))⟩)))
      have := Nat.two_pow_pos w
      omega
  · have e : tc = 28 := by omega
    subst e
    exact br_t rfl (br_f (by decide) ⟨rfl, bz_in k R⟩)
theorem bz_m_shift (k : Nat) (v1 v2 : Int32) (R : bz_R w tc ec rc N V T Q pt pe tb te rq od kd aa bb cc so ss tt wa sg) : wpX_shift (fun r u' => wpY_shift (fun r' v' => r' = r ∧ i_Rel k u' v') (nI w, nI (2 ^ w), nI (2 ^ (3 * w)), nI tc, nI ec, nI rc, nI (tc + ec), od, kd, aa, bb, cc, so, ss, tt, wa, sg, va, tr) v1 v2) (nI w, nI (3 * w), nI N.1, nI tc, nI ec, nI rc, N.2.1, N.2.2.1, N.2.2.2.1, N.2.2.2.2, st, tb, te, rq, sm, pa, ip) v1 v2 := by
  obtain ⟨hw, htc, hec, hrc⟩ := bz_Rb R
  rcases bz_sh v2 with h | ⟨h1, h2⟩ | ⟨h1, h2, hc⟩
  · exact br_t h (br_t h ⟨rfl, bz_in k R⟩)
  · exact br_f h1 (br_f h2 (br_f h1 (br_f h2 ⟨rfl, bz_in k R⟩)))
  · by_cases q : tc < 28
    · have h28 : ¬ nI tc = 28 := bz_ne (b := 28) (by omega) (by omega) (by omega)
      have h27 : nI tc ≤ 27 := nI_le (b := 27) (by omega) (by omega)
      rcases bz_ok v1 (n := tc) (by omega) with h | ⟨a, ha, rfl⟩
      · exact br_f h1 (br_t h2 (br_f h28 (bz_xT0 h (br_t rfl (br_f h1 (br_t h2 (br_t h27 (bz_yT0 h (br_f (by decide) ⟨rfl, bz_in k R⟩)))))))))
      · rcases hc with ⟨c, hc, rfl⟩ | ⟨c, hc0, hc, rfl⟩
        · refine br_f h1 (br_t h2 (br_f h28 (bz_xT1 htc ha (br_f (by decide) (bz_xshl R.1 q (by omega) hc (R.2.2.2.1 a ha) (fun N' tb' sm' pa' hn => ?_))))))
          exact br_f h1 (br_t h2 (br_t h27 (bz_yT1 htc ha (br_t rfl (bz_yterm q hec ⟨rfl, bz_in k (bz_addT R q hn (fun x => Nat.mod_lt _ (Nat.two_pow_pos w)) (bz_tO_l hw.2 (by omega) ha hc (R.2.2.1 a ha)))⟩)))))
        · refine br_f h1 (br_t h2 (br_f h28 (bz_xT1 htc ha (br_f (by decide) (bz_xshr R.1 q (by omega) hc (R.2.2.1 a ha) (R.2.2.2.1 a ha) (fun N' tb' sm' pa' hn => ?_))))))
          exact br_f h1 (br_t h2 (br_t h27 (bz_yT1 htc ha (br_t rfl (bz_yterm q hec ⟨rfl, bz_in k (bz_addT R q hn (fun x => Nat.lt_of_le_of_lt (Nat.div_le_self _ _) (R.2.2.1 a ha x)) (bz_tO_r hw.2 (by omega) ha hc0 hc (R.2.2.1 a ha)))⟩)))))
    · have e : tc = 28 := by omega
      subst e
      exact br_f h1 (br_t h2 (br_t rfl (br_f h1 (br_t h2 (br_f (by decide) ⟨rfl, bz_in k R⟩)))))
theorem bz_m_choose (k : Nat) (v1 v2 v3 : Int32) (R : bz_R w tc ec rc N V T Q pt pe tb te rq od kd aa bb cc so ss tt wa sg) : wpX_choose (fun r u' => wpY_choose (fun r' v' => r' = r ∧ i_Rel k u' v') (nI w, nI (2 ^ w), nI (2 ^ (3 * w)), nI tc, nI ec, nI rc, nI (tc + ec), od, kd, aa, bb, cc, so, ss, tt, wa, sg, va, tr) v1 v2 v3) (nI w, nI (3 * w), nI N.1, nI tc, nI ec, nI rc, N.2.1, N.2.2.1, N.2.2.2.1, N.2.2.2.2, st, tb, te, rq, sm, pa, ip) v1 v2 v3 := by
  obtain ⟨hw, htc, hec, hrc⟩ := bz_Rb R
  unfold wpX_choose wpY_choose
  dsimp only
  have hG := R.2.1
  rcases bz_ok v1 (n := ec) (by omega) with h | ⟨t, ht, rfl⟩
  · exact bz_xE0 h (br_t rfl (bz_yE0 h (br_f (by decide) ⟨rfl, bz_in k R⟩)))
  · by_cases q : tc < 28
    · have h28 : ¬ nI tc = 28 := bz_ne (b := 28) (by omega) (by omega) (by omega)
      have h27 : nI tc ≤ 27 := nI_le (b := 27) (by omega) (by omega)
      refine bz_xE1 hec ht (br_f (by decide) (br_f h28 ?_))
      rcases bz_ok v2 (n := tc) (by omega) with h | ⟨a, ha, rfl⟩
      · exact bz_xT0 h (br_t rfl (bz_yE1 hec ht (br_t rfl (br_t h27 (bz_yT0 h (br_f (by decide) ⟨rfl, bz_in k R⟩))))))
      · rcases bz_ok v3 (n := tc) (by omega) with h | ⟨b, hb, rfl⟩
        · exact bz_xT1 htc ha (br_f (by decide) (bz_xT0 h (br_t rfl (bz_yE1 hec ht (br_t rfl (br_t h27 (bz_yT1 htc ha (br_t rfl (bz_yT0 h (br_f (by decide) ⟨rfl, bz_in k R⟩))))))))))
        · refine bz_xT1 htc ha (br_f (by decide) (bz_xT1 htc hb (br_f (by decide) ⟨w + 1, ?_⟩)))
          refine bz_xcho44 (T := T) (by omega) q (by omega) (by omega) w 0 (w + 1) N sm (by omega) (by omega) R.1 (by omega) (R.2.2.2.2.1 t ht) (R.2.2.2.1 a ha) (R.2.2.2.1 b hb) (fun j h => by omega)
            (fun N' tb' sm' pa' e1 g1 d1 d2 => ?_)
          have hn : bz_nw w tc N N' tb tb' (fun x => if T t x = true then V a x else V b x) := ⟨e1, by omega, d1, d2⟩
          refine bz_yE1 hec ht (br_t rfl (br_t h27 (bz_yT1 htc ha (br_t rfl (bz_yT1 htc hb (br_t rfl (bz_yterm q hec ⟨rfl, bz_in k (bz_addT R q hn (fun x => ?_) (bz_tO_i hw.2 (by omega) (by omega) (by omega) ha hb ht (R.2.2.1 a ha) (R.2.2.1 b hb)))⟩)))))))
          by_cases z : T t x = true
          · rw [if_pos z]; exact R.2.2.1 a ha x
          · rw [if_neg z]; exact R.2.2.1 b hb x
    · have e : tc = 28 := by omega
      subst e
      exact bz_xE1 hec ht (br_f (by decide) (br_t rfl (bz_yE1 hec ht (br_t rfl (br_f (by decide) ⟨rfl, bz_in k R⟩)))))
theorem bz_m_combine (k : Nat) (v1 v2 v3 : Int32) (R : bz_R w tc ec rc N V T Q pt pe tb te rq od kd aa bb cc so ss tt wa sg) : wpX_combine (fun r u' => wpY_combine (fun r' v' => r' = r ∧ i_Rel k u' v') (nI w, nI (2 ^ w), nI (2 ^ (3 * w)), nI tc, nI ec, nI rc, nI (tc + ec), od, kd, aa, bb, cc, so, ss, tt, wa, sg, va, tr) v1 v2 v3) (nI w, nI (3 * w), nI N.1, nI tc, nI ec, nI rc, N.2.1, N.2.2.1, N.2.2.2.1, N.2.2.2.2, st, tb, te, rq, sm, pa, ip) v1 v2 v3 := by
  obtain ⟨hw, htc, hec, hrc⟩ := bz_Rb R
  have hG := R.2.1
  have h2w := bz_2w hw.2
  rcases pk_ix v1 (n := 6) (by omega) with h | h | ⟨c, hc, rfl⟩
  · exact br_t h (br_t h ⟨rfl, bz_in k R⟩)
  · obtain ⟨h0, h2⟩ := bz_ge (m := 5) (by omega) (by omega) h
    exact br_f h0 (br_f h2 (br_f h0 (br_f h2 ⟨rfl, bz_in k R⟩)))
  · have h0 : ¬ nI c < 0 := nI_pos (by omega)
    have h2 : nI c ≤ 5 := nI_le (b := 5) (by omega) (by omega)
    by_cases q : tc < 28
    · have h28 : ¬ nI tc = 28 := bz_ne (b := 28) (by omega) (by omega) (by omega)
      have h27 : nI tc ≤ 27 := nI_le (b := 27) (by omega) (by omega)
      refine br_f h0 (br_t h2 (br_f h28 ?_))
      rcases bz_ok v2 (n := tc) (by omega) with h | ⟨a, ha, rfl⟩
      · exact bz_xT0 h (br_t rfl (br_f h0 (br_t h2 (br_t h27 (bz_yT0 h (br_f (by decide) ⟨rfl, bz_in k R⟩))))))
      · rcases bz_ok v3 (n := tc) (by omega) with h | ⟨b, hb, rfl⟩
        · exact bz_xT1 htc ha (br_f (by decide) (bz_xT0 h (br_t rfl (br_f h0 (br_t h2 (br_t h27 (bz_yT1 htc ha (br_t rfl (bz_yT0 h (br_f (by decide) ⟨rfl, bz_in k R⟩))))))))))
        · have hVa := R.2.2.1 a ha
          have hVb := R.2.2.1 b hb
          have hA := R.2.2.2.1 a ha
          have hB := R.2.2.2.1 b hb
          have fin : ∀ (nv : Nat → Nat), (∀ x, nv x < 2 ^ w) → (∀ x, bz_jo (nI c) (nI (V a x)) (nI (V b x)) &&& (nI (2 ^ w) - 1) = nI (nv x)) → ∀ N' tb' sm' pa', bz_nw w tc N N' tb tb' nv →
              wpY_combine (fun r' v' => r' = nI tc ∧ i_Rel k (nI w, nI (3 * w), nI N'.1, nI (tc + 1), nI ec, nI rc, N'.2.1, N'.2.2.1, N'.2.2.2.1, N'.2.2.2.2, st, tb', te, rq, sm', pa', ip) v') (nI w, nI (2 ^ w), nI (2 ^ (3 * w)), nI tc, nI ec, nI rc, nI (tc + ec), od, kd, aa, bb, cc, so, ss, tt, wa, sg, va, tr) (nI c) (nI a) (nI b) := by
            intro nv hv J N' tb' sm' pa' hn
            exact br_f h0 (br_t h2 (br_t h27 (bz_yT1 htc ha (br_t rfl (bz_yT1 htc hb (br_t rfl (bz_yterm q hec ⟨rfl, bz_in k (bz_addT R q hn hv (bz_tO_c hc (by omega) (by omega) ha hb J))⟩)))))))
          refine bz_xT1 htc ha (br_f (by decide) (bz_xT1 htc hb (br_f (by decide) ?_)))
          have mo : ∀ n : Nat, n % 2 ^ w < 2 ^ w := fun n => Nat.mod_lt _ (Nat.two_pow_pos w)
          rcases (show c = 0 ∨ c = 1 ∨ c = 2 ∨ 3 ≤ c by omega) with rfl | rfl | rfl | hc3
          · refine br_t rfl (bz_xas (sb := false) R.1 (by omega) q (by omega) (by omega) hVa hVb hA hB (fin _ (fun x => mo _) (fun x => ?_)))
            exact bz_j0 w (by omega) _ (by have := hVa x; omega) _ (by have := hVb x; omega)
          · refine br_f (by decide) (br_t rfl (bz_xas (sb := true) R.1 (by omega) q (by omega) (by omega) hVa hVb hA hB (fin _ (fun x => mo _) (fun x => ?_))))
            exact bz_j1 w (by omega) _ (hVa x) _ (hVb x)
          · refine br_f (by decide) (br_f (by decide) (br_t rfl (bz_xmul R.1 (by omega) q (by omega) (by omega) hVa hVb hA hB (fin _ (fun x => mo _) (fun x => ?_)))))
            exact bz_j2 w (by omega) _ (by have := hVa x; omega) _ (by have := hVb x; omega)
          · refine br_f (bz_ne (b := 0) (by omega) (by omega) (by omega)) (br_f (bz_ne (b := 1) (by omega) (by omega) (by omega)) (br_f (bz_ne (b := 2) (by omega) (by omega) (by omega)) ⟨w + 1, ?_⟩))
            refine bz_xbit137 hc3 (by omega) q (by omega) (by omega) w 0 (w + 1) N sm (by omega) (by omega) R.1 (by omega) hA hB (fun j h => by omega) (fun N' tb' sm' pa' e1 g1 d1 d2 => ?_)
            exact fin (fun x => bz_bo c (V a x) (V b x)) (fun x => (bz_jb hc3 (by omega) hw.2 (hVa x) (hVb x)).2) (fun x => (bz_jb hc3 (by omega) hw.2 (hVa x) (hVb x)).1) N' tb' sm' pa' ⟨e1, by omega, d1, d2⟩
    · have e : tc = 28 := by omega
      subst e
      exact br_f h0 (br_t h2 (br_t rfl (br_f h0 (br_t h2 (br_f (by decide) ⟨rfl, bz_in k R⟩)))))
end
end
section
/-! compare, connect, require, release, both sides -/
section
variable {w tc ec rc : Nat} {N N' : bz_T} {V : Nat → Nat → Nat} {T Q : Nat → Nat → Bool} {pt pe : Nat → Nat} {st tb te rq sm pa ip od kd aa bb cc so ss tt wa sg va tr : Nat → Int32}
theorem bz_x79 {post : Int32 → SX → Prop} {e : Int32} (hec : ec < 16) (K : post (nI ec) (nI w, nI (3 * w), nI N.1, nI tc, nI (ec + 1), nI rc, N.2.1, N.2.2.1, N.2.2.2.1, N.2.2.2.2, st, tb, upd te ec e, rq, sm, pa, ip)) : wX_compare_79 post e (nI ec) (nI w) (nI (3 * w)) (nI N.1) (nI tc) (nI ec) (nI rc) N.2.1 N.2.2.1 N.2.2.2.1 N.2.2.2.2 st tb te rq sm pa ip := by
  refine ⟨vp_in_nI hec (by omega), nm_e (nm_r (nI_1 ec) ?_)⟩
  rw [nI_clamp (n := ec) (by omega), nI_pred]
  exact K
theorem bz_m_compare (k : Nat) (v1 v2 v3 : Int32) (R : bz_R w tc ec rc N V T Q pt pe tb te rq od kd aa bb cc so ss tt wa sg) : wpX_compare (fun r u' => wpY_compare (fun r' v' => r' = r ∧ i_Rel k u' v') (nI w, nI (2 ^ w), nI (2 ^ (3 * w)), nI tc, nI ec, nI rc, nI (tc + ec), od, kd, aa, bb, cc, so, ss, tt, wa, sg, va, tr) v1 v2 v3) (nI w, nI (3 * w), nI N.1, nI tc, nI ec, nI rc, N.2.1, N.2.2.1, N.2.2.2.1, N.2.2.2.2, st, tb, te, rq, sm, pa, ip) v1 v2 v3 := by
  obtain ⟨hw, htc, hec, hrc⟩ := bz_Rb R
  have hG := R.2.1
  rcases pk_ix v1 (n := 3) (by omega) with h | h | ⟨c, hc, rfl⟩
  · exact br_t h (br_t h ⟨rfl, bz_in k R⟩)
  · obtain ⟨h0, h2⟩ := bz_ge (m := 2) (by omega) (by omega) h
    exact br_f h0 (br_f h2 (br_f h0 (br_f h2 ⟨rfl, bz_in k R⟩)))
  · have h0 : ¬ nI c < 0 := nI_pos (by omega)
    have h2 : nI c ≤ 2 := nI_le (b := 2) (by omega) (by omega)
    by_cases q : ec < 16
    · have h16 : ¬ nI ec = 16 := bz_ne (b := 16) (by omega) (by omega) (by omega)
      have h15 : nI ec ≤ 15 := nI_le (b := 15) (by omega) (by omega)
      refine br_f h0 (br_t h2 (br_f h16 ?_))
      rcases bz_ok v2 (n := tc) (by omega) with h | ⟨a, ha, rfl⟩
      · exact bz_xT0 h (br_t rfl (br_f h0 (br_t h2 (br_t h15 (bz_yT0 h (br_f (by decide) ⟨rfl, bz_in k R⟩))))))
      · rcases bz_ok v3 (n := tc) (by omega) with h | ⟨b, hb, rfl⟩
        · exact bz_xT1 htc ha (br_f (by decide) (bz_xT0 h (br_t rfl (br_f h0 (br_t h2 (br_t h15 (bz_yT1 htc ha (br_t rfl (bz_yT0 h (br_f (by decide) ⟨rfl, bz_in k R⟩))))))))))
        · have hVa := R.2.2.1 a ha
          have hVb := R.2.2.1 b hb
          have hA := R.2.2.2.1 a ha
          have hB := R.2.2.2.1 b hb
          have fin : ∀ (nt : Nat → Bool), bz_eO w V T tc ec nt (nI c) (nI a) (nI b) → ∀ N' e, bz_X w N N' → N'.1 ≤ N.1 + 24 → bz_ed w N' e nt →
              wpY_compare (fun r' v' => r' = nI ec ∧ i_Rel k (nI w, nI (3 * w), nI N'.1, nI tc, nI (ec + 1), nI rc, N'.2.1, N'.2.2.1, N'.2.2.2.1, N'.2.2.2.2, st, tb, upd te ec e, rq, sm, pa, ip) v') (nI w, nI (2 ^ w), nI (2 ^ (3 * w)), nI tc, nI ec, nI rc, nI (tc + ec), od, kd, aa, bb, cc, so, ss, tt, wa, sg, va, tr) (nI c) (nI a) (nI b) := by
            intro nt hO N' e e1 g1 d1
            exact br_f h0 (br_t h2 (br_t h15 (bz_yT1 htc ha (br_t rfl (bz_yT1 htc hb (br_t rfl (bz_ytest htc q ⟨rfl, bz_in k (bz_addE R q e1 g1 d1 hO)⟩)))))))
          refine bz_xT1 htc ha (br_f (by decide) (bz_xT1 htc hb (br_f (by decide) ?_)))
          rcases (show c = 0 ∨ c = 1 ∨ c = 2 by omega) with rfl | rfl | rfl
          · refine br_t rfl (bz_equal (by omega) (by omega) R.1 (by omega) hA hB (fun N' v e1 g1 d1 => bz_x79 q (fin (fun x => decide (V a x = V b x)) (bz_eO_e hw.2 (by omega) (by omega) ha hb hVa hVb) N' v e1 (by omega) (bz_ed_eq d1 (fun x => ?_)))))
            rw [bz_tbv (hVa x), bz_tbv (hVb x)]
          · exact br_f (by decide) (br_f (by decide) (bz_less (sg := false) (by omega) (by omega) R.1 (by omega) hA hB (fun N' v e1 g1 d1 => bz_x79 q (fin _ (bz_eO_l (sg := false) hw.1 hw.2 (by omega) (by omega) ha hb hVa hVb) N' v e1 (by omega) d1))))
          · exact br_f (by decide) (br_t rfl (bz_less (sg := true) (by omega) (by omega) R.1 (by omega) hA hB (fun N' v e1 g1 d1 => bz_x79 q (fin _ (bz_eO_l (sg := true) hw.1 hw.2 (by omega) (by omega) ha hb hVa hVb) N' v e1 (by omega) d1))))
    · have e : ec = 16 := by omega
      subst e
      exact br_f h0 (br_t h2 (br_t rfl (br_f h0 (br_t h2 (br_f (by decide) ⟨rfl, bz_in k R⟩)))))
theorem bz_bck {post : Int32 → SX → Prop} {c : Nat} {u v : Int32} {f g : Nat → Bool} (hc : c < 3) (hN : bz_NI w N) (hG : N.1 + 3 ≤ 6000) (hu : bz_ed w N u f) (hv : bz_ed w N v g)
    (K : ∀ N' v, bz_X w N N' → N'.1 ≤ N.1 + 3 → bz_ed w N' v (fun x => bz_bc c (f x) (g x)) → post v (nI w, nI (3 * w), nI N'.1, nI tc, nI ec, nI rc, N'.2.1, N'.2.2.1, N'.2.2.2.1, N'.2.2.2.2, st, tb, te, rq, sm, pa, ip)) : wpX_bitwise post (nI w, nI (3 * w), nI N.1, nI tc, nI ec, nI rc, N.2.1, N.2.2.1, N.2.2.2.1, N.2.2.2.2, st, tb, te, rq, sm, pa, ip) (3 + nI c) u v := by
  rcases (show c = 0 ∨ c = 1 ∨ c = 2 by omega) with rfl | rfl | rfl
  · exact bz_bw3 hN (by omega) hu hv (fun N' v h1 h2 h3 => K N' v h1 (by omega) h3)
  · exact bz_bw4 hN (by omega) hu hv (fun N' v h1 h2 h3 => K N' v h1 (by omega) h3)
  · exact bz_bw5 hN (by omega) hu hv (fun N' v h1 h2 h3 => K N' v h1 (by omega) h3)
theorem bz_m_connect (k : Nat) (v1 v2 v3 : Int32) (R : bz_R w tc ec rc N V T Q pt pe tb te rq od kd aa bb cc so ss tt wa sg) : wpX_connect (fun r u' => wpY_connect (fun r' v' => r' = r ∧ i_Rel k u' v') (nI w, nI (2 ^ w), nI (2 ^ (3 * w)), nI tc, nI ec, nI rc, nI (tc + ec), od, kd, aa, bb, cc, so, ss, tt, wa, sg, va, tr) v1 v2 v3) (nI w, nI (3 * w), nI N.1, nI tc, nI ec, nI rc, N.2.1, N.2.2.1, N.2.2.2.1, N.2.2.2.2, st, tb, te, rq, sm, pa, ip) v1 v2 v3 := by
  obtain ⟨hw, htc, hec, hrc⟩ := bz_Rb R
  have hG := R.2.1
  rcases pk_ix v1 (n := 3) (by omega) with h | h | ⟨c, hc, rfl⟩
  · exact br_t h (br_t h ⟨rfl, bz_in k R⟩)
  · obtain ⟨h0, h2⟩ := bz_ge (m := 2) (by omega) (by omega) h
    exact br_f h0 (br_f h2 (br_f h0 (br_f h2 ⟨rfl, bz_in k R⟩)))
  · have h0 : ¬ nI c < 0 := nI_pos (by omega)
    have h2 : nI c ≤ 2 := nI_le (b := 2) (by omega) (by omega)
    by_cases q : ec < 16
    · have h16 : ¬ nI ec = 16 := bz_ne (b := 16) (by omega) (by omega) (by omega)
      have h15 : nI ec ≤ 15 := nI_le (b := 15) (by omega) (by omega)
      refine br_f h0 (br_t h2 (br_f h16 ?_))
      rcases bz_ok v2 (n := ec) (by omega) with h | ⟨a, ha, rfl⟩
      · exact bz_xE0 h (br_t rfl (br_f h0 (br_t h2 (br_t h15 (bz_yE0 h (br_f (by decide) ⟨rfl, bz_in k R⟩))))))
      · rcases bz_ok v3 (n := ec) (by omega) with h | ⟨b, hb, rfl⟩
        · exact bz_xE1 hec ha (br_f (by decide) (bz_xE0 h (br_t rfl (br_f h0 (br_t h2 (br_t h15 (bz_yE1 hec ha (br_t rfl (bz_yE0 h (br_f (by decide) ⟨rfl, bz_in k R⟩))))))))))
        · refine bz_xE1 hec ha (br_f (by decide) (bz_xE1 hec hb (br_f (by decide) ⟨vp_in_nI (by omega) (by omega), vp_in_nI (by omega) (by omega), ?_⟩)))
          rw [nI_clamp (n := a) (by omega), nI_clamp (n := b) (by omega), nI_clamp (n := ec) (by omega)]
          refine bz_bck hc R.1 (by omega) (R.2.2.2.2.1 a ha) (R.2.2.2.2.1 b hb) (fun N' e e1 g1 d1 => ⟨vp_in_nI q (by omega), nm_e (nm_r (nI_1 ec) ?_)⟩)
          rw [nI_pred]
          exact br_f h0 (br_t h2 (br_t h15 (bz_yE1 hec ha (br_t rfl (bz_yE1 hec hb (br_t rfl (bz_ytest htc q ⟨rfl, bz_in k (bz_addE R q e1 (by omega) d1 (bz_eO_c hc (by omega) (by omega) ha hb))⟩)))))))
    · have e : ec = 16 := by omega
      subst e
      exact br_f h0 (br_t h2 (br_t rfl (br_f h0 (br_t h2 (br_f (by decide) ⟨rfl, bz_in k R⟩)))))
theorem bz_addQ {e : Int32} {t : Nat} {s : Bool} (R : bz_R w tc ec rc N V T Q pt pe tb te rq od kd aa bb cc so ss tt wa sg) (hrc : rc < 10) (ht : t < ec) (he : bz_ed w N e (fun x => T t x == s)) :
    bz_R w tc ec (rc + 1) N V T (fun k => if k = rc then (fun x => T t x == s) else Q k) pt pe tb te (upd rq rc e) od kd aa bb cc so ss tt (upd wa rc (nI t)) (upd sg rc (bz_I s)) := by
  obtain ⟨h0, h1, h2, h3, h4, h5, w0, w1, w2, w3, w4, w5⟩ := R
  refine ⟨h0, h1, h2, h3, h4, fun k hk => ?_, w0, w1, w2, by omega, w4, fun k hk => ?_⟩
  · dsimp only
    by_cases q : k = rc
    · subst q; rw [pk_us, if_pos rfl]; exact he
    · rw [pk_un q, if_neg q]; exact h5 k (by omega)
  · dsimp only
    by_cases q : k = rc
    · subst q; exact ⟨t, s, ht, pk_us, pk_us, fun x => by rw [if_pos rfl]⟩
    · rw [pk_un q, pk_un q, if_neg q]; exact w5 k (by omega)
theorem bz_relQ (R : bz_R w tc ec (rc + 1) N V T Q pt pe tb te rq od kd aa bb cc so ss tt wa sg) : bz_R w tc ec rc N V T Q pt pe tb te rq od kd aa bb cc so ss tt wa sg := by
  obtain ⟨h0, h1, h2, h3, h4, h5, w0, w1, w2, w3, w4, w5⟩ := R
  exact ⟨h0, h1, h2, h3, h4, fun k hk => h5 k (by omega), w0, w1, w2, by omega, w4, fun k hk => w5 k (by omega)⟩
theorem bz_m_require (k : Nat) (v1 v2 : Int32) (R : bz_R w tc ec rc N V T Q pt pe tb te rq od kd aa bb cc so ss tt wa sg) : wpX_require (fun r u' => wpY_require (fun r' v' => r' = r ∧ i_Rel k u' v') (nI w, nI (2 ^ w), nI (2 ^ (3 * w)), nI tc, nI ec, nI rc, nI (tc + ec), od, kd, aa, bb, cc, so, ss, tt, wa, sg, va, tr) v1 v2) (nI w, nI (3 * w), nI N.1, nI tc, nI ec, nI rc, N.2.1, N.2.2.1, N.2.2.2.1, N.2.2.2.2, st, tb, te, rq, sm, pa, ip) v1 v2 := by
  obtain ⟨hw, htc, hec, hrc⟩ := bz_Rb R
  unfold wpX_require wpY_require
  dsimp only
  rcases bz_ok v1 (n := ec) (by omega) with h | ⟨t, ht, rfl⟩
  · exact bz_xE0 h (br_t rfl (bz_yE0 h (br_f (by decide) ⟨rfl, bz_in k R⟩)))
  · by_cases q : rc < 10
    · have h10 : ¬ nI rc = 10 := bz_ne (b := 10) (by omega) (by omega) (by omega)
      have h9 : nI rc ≤ 9 := nI_le (b := 9) (by omega) (by omega)
      refine bz_xE1 hec ht (br_f (by decide) (br_f h10 ?_))
      rw [nI_clamp (n := t) (by omega), nI_clamp (n := rc) (by omega)]
      by_cases z : v2 = 0
      · refine br_t z ⟨vp_in_nI (by omega) (by omega), vp_in_nI (by omega) (by omega), nm_e (nm_r (nI_1 rc) ?_)⟩
        rw [nI_clamp (n := rc) (by omega)]
        refine bz_yE1 hec ht (br_t rfl (br_t h9 ⟨vp_in_nI (by omega) (by omega), nm_e (br_t z ⟨vp_in_nI (by omega) (by omega), nm_e (nm_r (nI_1 rc) ?_)⟩)⟩))
        rw [nI_clamp (n := rc) (by omega), show vp_nar .boolean 0 = 0 from bz_bnar false]
        exact ⟨rfl, bz_in k (bz_addQ (s := false) R q ht (bz_ed_eq (bz_ed_not (R.2.2.2.2.1 t ht)) (fun x => by cases T t x <;> rfl)))⟩
      · refine br_f z ⟨vp_in_nI (by omega) (by omega), vp_in_nI (by omega) (by omega), nm_e (nm_r (nI_1 rc) ?_)⟩
        rw [nI_clamp (n := rc) (by omega)]
        refine bz_yE1 hec ht (br_t rfl (br_t h9 ⟨vp_in_nI (by omega) (by omega), nm_e (br_f z ⟨vp_in_nI (by omega) (by omega), nm_e (nm_r (nI_1 rc) ?_)⟩)⟩))
        rw [nI_clamp (n := rc) (by omega), show vp_nar .boolean 1 = 1 from bz_bnar true]
        exact ⟨rfl, bz_in k (bz_addQ (s := true) R q ht (bz_ed_eq (R.2.2.2.2.1 t ht) (fun x => by cases T t x <;> rfl)))⟩
    · have e : rc = 10 := by omega
      subst e
      exact bz_xE1 hec ht (br_f (by decide) (br_t rfl (bz_yE1 hec ht (br_t rfl (br_f (by decide) ⟨rfl, bz_in k R⟩)))))
theorem bz_m_release (k : Nat) (R : bz_R w tc ec rc N V T Q pt pe tb te rq od kd aa bb cc so ss tt wa sg) : wpX_release (fun r u' => wpY_release (fun r' v' => r' = r ∧ i_Rel k u' v') (nI w, nI (2 ^ w), nI (2 ^ (3 * w)), nI tc, nI ec, nI rc, nI (tc + ec), od, kd, aa, bb, cc, so, ss, tt, wa, sg, va, tr)) (nI w, nI (3 * w), nI N.1, nI tc, nI ec, nI rc, N.2.1, N.2.2.1, N.2.2.2.1, N.2.2.2.2, st, tb, te, rq, sm, pa, ip) := by
  obtain ⟨hw, htc, hec, hrc⟩ := bz_Rb R
  cases rc with
  | zero => exact br_t rfl (br_t rfl ⟨rfl, bz_in k R⟩)
  | succ rc =>
    have h0 : ¬ nI (rc + 1) = 0 := nI_ne0 (by omega) (by omega)
    exact br_f h0 (nm_r (nI_pred rc) (br_f h0 (nm_r (nI_pred rc) ⟨rfl, bz_in k (bz_relQ R)⟩)))
end
end
section
/-! the questions, both sides -/
theorem bz_LI_uq {f : Nat → Bool} {lo hi : Nat} {r r' : Int32} (h : bz_LI f lo hi r) (h' : bz_LI f lo hi r') : r = r' := by
  rcases h with ⟨e, h⟩ | ⟨m, e, h1, h2, h3, h4⟩
  · rcases h' with ⟨e', _⟩ | ⟨m', e', h1', h2', h3', h4'⟩
    · rw [e, e']
    · rw [h m' h1' h2'] at h3'; cases h3'
  · rcases h' with ⟨e', h'⟩ | ⟨m', e', h1', h2', h3', h4'⟩
    · rw [h' m h1 h2] at h3; cases h3
    · rw [e, e']
      refine congrArg nI ?_
      by_cases q : m < m'
      · rw [h4' m h1 q] at h3; cases h3
      · by_cases q' : m' < m
        · rw [h4 m' h1' q'] at h3'; cases h3'
        · omega
theorem bz_LI_c {f : Nat → Bool} {lo hi : Nat} {r : Int32} {A B : Prop} (hhi : hi ≤ 2 ^ 30) (h : bz_LI f lo hi r) (a : ∀ m, lo ≤ m → m < hi → f m = true → A)
    (b : (∀ x, lo ≤ x → x < hi → f x = false) → B) : (0 ≤ r → A) ∧ (¬ 0 ≤ r → B) := by
  rcases h with ⟨rfl, h⟩ | ⟨m, rfl, h1, h2, h3, h4⟩
  · exact br_f (by decide) (b h)
  · exact br_t (nI_pos' (by omega)) (a m h1 h2 h3)
theorem bz_bvsum (f : Nat → Bool) (i : Nat) (hi : i < 4) : nI (bz_bv f i) + (bz_I (f i) <<< (nI i &&& 31)) = nI (bz_bv f (i + 1)) := by
  have h2 : 2 ^ i ≤ 2 ^ 4 := Nat.pow_le_pow_right (by decide) (by omega)
  show _ = nI (2 ^ i * (f i).toNat + bz_bv f i)
  have hb : (f i).toNat ≤ 1 := Bool.toNat_le _
  have hm : (f i).toNat * 2 ^ i ≤ 1 * 2 ^ 4 := Nat.mul_le_mul hb h2
  rw [bz_I_nI, pk_shlN _ i (s_l i (by omega)) (by omega), nI_add, Nat.mul_comm, Nat.add_comm]
section
variable {w tc ec rc : Nat} {N N' : bz_T} {V : Nat → Nat → Nat} {T Q : Nat → Nat → Bool} {pt pe : Nat → Nat} {st tb te rq sm pa ip od kd aa bb cc so ss tt wa sg va tr : Nat → Int32}
theorem bz_1in (hw : w ≤ 4) : (1 : Int32) <<< (nI (3 * w) &&& 31) = nI (2 ^ (3 * w)) := by
  have hp := bz_p12 hw
  show nI 1 <<< (nI (3 * w) &&& 31) = _
  rw [pk_shlN _ (3 * w) (s_l _ (by omega)) (by omega), Nat.one_mul]
theorem bz_xval41 {post : Int32 → SX → Prop} {a x : Nat} (hN : bz_NI w N) (ha : a < 28) (hv : V a x < 2 ^ w) (hA : ∀ j, j < w → bz_ed w N (tb (4 * a + j)) (fun x => (V a x).testBit j))
    (hS : bz_S w N ip st) (hn : bz_nd w (3 * w) x ip) (K : post (nI (V a x)) (nI w, nI (3 * w), nI N.1, nI tc, nI ec, nI rc, N.2.1, N.2.2.1, N.2.2.2.1, N.2.2.2.2, st, tb, te, rq, sm, pa, ip)) : ∃ n, wX_valueOf_41 post (nI a) (nI w) (nI (3 * w)) (nI N.1) (nI tc) (nI ec) (nI rc) N.2.1 N.2.2.1 N.2.2.2.1 N.2.2.2.2 st tb te rq sm pa ip n 0 0 := by
  have hw := hN.1
  refine loop_0 (fun n i (_ : Unit) => wX_valueOf_41 post (nI a) (nI w) (nI (3 * w)) (nI N.1) (nI tc) (nI ec) (nI rc) N.2.1 N.2.2.1 N.2.2.2.1 N.2.2.2.2 st tb te rq sm pa ip n (nI (bz_bv (fun j => (V a x).testBit j) i)) (nI i)) (fun _ _ => True) w () trivial (fun n _ _ => ?_) (fun n i _ hi _ ih => ?_)
  · rw [bz_tbv hv]
    exact br_t (nI_le (Nat.le_refl _) (by omega)) K
  · refine br_f (nI_ge hi (by omega)) ?_
    rw [bz_ix, nI_clamp (n := 4 * a + i) (by omega)]
    refine ⟨vp_in_nI (by omega) (by omega), bz_seen hN (hA i hi) hS (fun r hr => ?_)⟩
    rw [bz_F_full hn hr]
    exact nm_r (bz_bvsum (fun j => (V a x).testBit j) i (by omega)) (nm_r (nI_1 i) (ih () trivial))
theorem bz_m_valueOf (k : Nat) (v1 v2 : Int32) (R : bz_R w tc ec rc N V T Q pt pe tb te rq od kd aa bb cc so ss tt wa sg) : wpX_valueOf (fun r u' => wpY_valueOf (fun r' v' => r' = r ∧ i_Rel k u' v') (nI w, nI (2 ^ w), nI (2 ^ (3 * w)), nI tc, nI ec, nI rc, nI (tc + ec), od, kd, aa, bb, cc, so, ss, tt, wa, sg, va, tr) v1 v2) (nI w, nI (3 * w), nI N.1, nI tc, nI ec, nI rc, N.2.1, N.2.2.1, N.2.2.2.1, N.2.2.2.2, st, tb, te, rq, sm, pa, ip) v1 v2 := by
  obtain ⟨hw, htc, hec, hrc⟩ := bz_Rb R
  have hp := bz_p12 hw.2
  unfold wpX_valueOf wpY_valueOf
  dsimp only
  rcases bz_ok v1 (n := tc) (by omega) with h | ⟨a, ha, rfl⟩
  · exact bz_xT0 h (br_t rfl (bz_yT0 h (br_f (by decide) ⟨rfl, bz_in k R⟩)))
  · refine bz_xT1 htc ha (br_f (by decide) ?_)
    rw [bz_1in hw.2]
    rcases pk_ix v2 (n := 2 ^ (3 * w)) (by omega) with h | h | ⟨x, hx, rfl⟩
    · exact br_t h (bz_yT1 htc ha (br_t rfl (br_t h (br_f (by decide) ⟨rfl, bz_in k R⟩))))
    · obtain ⟨h0, h2⟩ := bz_ge (m := 0) (by omega) (Nat.two_pow_pos _) h
      have h3 : ¬ v2 < nI (2 ^ (3 * w)) := Int32.not_lt.mpr h
      exact br_f h0 (br_f h3 (bz_yT1 htc ha (br_t rfl (br_f h0 (br_f h3 (br_f (by decide) ⟨rfl, bz_in k R⟩))))))
    · have h0 : ¬ nI x < 0 := nI_pos (by omega)
      have h3 : nI x < nI (2 ^ (3 * w)) := nI_lt hx (by omega)
      refine br_f h0 (br_t h3 (bz_setI hw.2 (by omega) (fun ip n => bz_sim R.1 (bz_nd_ti n) (fun st hS => ?_))))
      refine bz_xval41 R.1 (by omega) (R.2.2.1 a ha x) (R.2.2.2.1 a ha) hS n ?_
      refine bz_yT1 htc ha (br_t rfl (br_f h0 (br_t h3 (br_t rfl (bz_work htc hec hx R.2.2.2.2.2.2.2.2.2.2.1 (fun va tr h1 h2 => ⟨vp_in_nI (by omega) (by omega), ?_, bz_in k R⟩))))))
      rw [nI_clamp (n := a) (by omega)]
      exact h1 a ha
theorem bz_m_holds (k : Nat) (v1 v2 : Int32) (R : bz_R w tc ec rc N V T Q pt pe tb te rq od kd aa bb cc so ss tt wa sg) : wpX_holds (fun r u' => wpY_holds (fun r' v' => r' = r ∧ i_Rel k u' v') (nI w, nI (2 ^ w), nI (2 ^ (3 * w)), nI tc, nI ec, nI rc, nI (tc + ec), od, kd, aa, bb, cc, so, ss, tt, wa, sg, va, tr) v1 v2) (nI w, nI (3 * w), nI N.1, nI tc, nI ec, nI rc, N.2.1, N.2.2.1, N.2.2.2.1, N.2.2.2.2, st, tb, te, rq, sm, pa, ip) v1 v2 := by
  obtain ⟨hw, htc, hec, hrc⟩ := bz_Rb R
  have hp := bz_p12 hw.2
  unfold wpX_holds wpY_holds
  dsimp only
  rcases bz_ok v1 (n := ec) (by omega) with h | ⟨a, ha, rfl⟩
  · exact bz_xE0 h (br_t rfl (bz_yE0 h (br_f (by decide) ⟨rfl, bz_in k R⟩)))
  · refine bz_xE1 hec ha (br_f (by decide) ?_)
    rw [bz_1in hw.2]
    rcases pk_ix v2 (n := 2 ^ (3 * w)) (by omega) with h | h | ⟨x, hx, rfl⟩
    · exact br_t h (bz_yE1 hec ha (br_t rfl (br_t h (br_f (by decide) ⟨rfl, bz_in k R⟩))))
    · obtain ⟨h0, h2⟩ := bz_ge (m := 0) (by omega) (Nat.two_pow_pos _) h
      have h3 : ¬ v2 < nI (2 ^ (3 * w)) := Int32.not_lt.mpr h
      exact br_f h0 (br_f h3 (bz_yE1 hec ha (br_t rfl (br_f h0 (br_f h3 (br_f (by decide) ⟨rfl, bz_in k R⟩))))))
    · have h0 : ¬ nI x < 0 := nI_pos (by omega)
      have h3 : nI x < nI (2 ^ (3 * w)) := nI_lt hx (by omega)
      rw [nI_clamp (n := a) (by omega)]
      refine br_f h0 (br_t h3 (bz_setI hw.2 (by omega) (fun ip n => bz_sim R.1 (bz_nd_ti n) (fun st hS => ⟨vp_in_nI (by omega) (by omega), ?_⟩))))
      refine bz_seen R.1 (R.2.2.2.2.1 a ha) hS (fun r hr => ?_)
      rw [bz_F_full n hr]
      refine bz_yE1 hec ha (br_t rfl (br_f h0 (br_t h3 (br_t rfl (bz_work htc hec hx R.2.2.2.2.2.2.2.2.2.2.1 (fun va tr h1 h2 => ⟨vp_in_nI (by omega) (by omega), ?_⟩))))))
      dsimp only
      rw [h2 a ha]
      cases T a x
      · exact br_t rfl ⟨rfl, bz_in k R⟩
      · exact br_f (by decide) ⟨rfl, bz_in k R⟩
theorem bz_m_count (k : Nat) (R : bz_R w tc ec rc N V T Q pt pe tb te rq od kd aa bb cc so ss tt wa sg) : wpX_count (fun r u' => wpY_count (fun r' v' => r' = r ∧ i_Rel k u' v') (nI w, nI (2 ^ w), nI (2 ^ (3 * w)), nI tc, nI ec, nI rc, nI (tc + ec), od, kd, aa, bb, cc, so, ss, tt, wa, sg, va, tr)) (nI w, nI (3 * w), nI N.1, nI tc, nI ec, nI rc, N.2.1, N.2.2.1, N.2.2.2.1, N.2.2.2.2, st, tb, te, rq, sm, pa, ip) := by
  obtain ⟨hw, htc, hec, hrc⟩ := bz_Rb R
  have hG := R.2.1
  unfold wpX_count
  dsimp only
  refine bz_join hrc R.1 (by omega) R.2.2.2.2.2.1 (fun N1 v1 e1 g1 d1 => ?_)
  refine bz_countF e1.1 d1 (fun st ip => ?_)
  refine bz_back R.1 e1 (fun N2 e2 g2 => ?_)
  exact bz_ycount R.2.2.2.2.2.2 (fun va tr => ⟨rfl, bz_in k (bz_R_X R e2 g2)⟩)
theorem bz_m_solvable (k : Nat) (R : bz_R w tc ec rc N V T Q pt pe tb te rq od kd aa bb cc so ss tt wa sg) : wpX_solvable (fun r u' => wpY_solvable (fun r' v' => r' = r ∧ i_Rel k u' v') (nI w, nI (2 ^ w), nI (2 ^ (3 * w)), nI tc, nI ec, nI rc, nI (tc + ec), od, kd, aa, bb, cc, so, ss, tt, wa, sg, va, tr)) (nI w, nI (3 * w), nI N.1, nI tc, nI ec, nI rc, N.2.1, N.2.2.1, N.2.2.2.1, N.2.2.2.2, st, tb, te, rq, sm, pa, ip) := by
  obtain ⟨hw, htc, hec, hrc⟩ := bz_Rb R
  have hG := R.2.1
  have hp := bz_p12 hw.2
  unfold wpX_solvable wpY_solvable
  dsimp only
  refine bz_join hrc R.1 (by omega) R.2.2.2.2.2.1 (fun N1 v1 e1 g1 d1 => ?_)
  refine bz_first (x := 0) e1.1 d1 (Nat.two_pow_pos _) (fun r st ip hr => ?_)
  refine bz_back R.1 e1 (fun N2 e2 g2 => ?_)
  have hlo : ∀ x, x < 2 ^ (3 * w) → (nI x ≤ -1 ↔ x < 0) := fun x hx => ⟨fun z => absurd (Int32.le_trans (nI_pos' (by omega)) z) (by decide), fun z => by omega⟩
  refine bz_LI_c (by omega) hr (fun m m1 m2 m3 => ?_) (fun hf => ?_)
  · refine bz_after R.2.2.2.2.2.2 (lo := 0) hlo (fun r' va tr hr' => ?_)
    exact bz_LI_c (by omega) hr' (fun _ _ _ _ => ⟨rfl, bz_in k (bz_R_X R e2 g2)⟩) (fun hf => by rw [hf m m1 m2] at m3; cases m3)
  · refine bz_after R.2.2.2.2.2.2 (lo := 0) hlo (fun r' va tr hr' => ?_)
    exact bz_LI_c (by omega) hr' (fun m m1 m2 m3 => by rw [hf m m1 m2] at m3; cases m3) (fun _ => ⟨rfl, bz_in k (bz_R_X R e2 g2)⟩)
theorem bz_m_next (k : Nat) (v1 : Int32) (R : bz_R w tc ec rc N V T Q pt pe tb te rq od kd aa bb cc so ss tt wa sg) : wpX_next (fun r u' => wpY_next (fun r' v' => r' = r ∧ i_Rel k u' v') (nI w, nI (2 ^ w), nI (2 ^ (3 * w)), nI tc, nI ec, nI rc, nI (tc + ec), od, kd, aa, bb, cc, so, ss, tt, wa, sg, va, tr) v1) (nI w, nI (3 * w), nI N.1, nI tc, nI ec, nI rc, N.2.1, N.2.2.1, N.2.2.2.1, N.2.2.2.2, st, tb, te, rq, sm, pa, ip) v1 := by
  obtain ⟨hw, htc, hec, hrc⟩ := bz_Rb R
  have hG := R.2.1
  have hp := bz_p12 hw.2
  have hp0 := Nat.two_pow_pos (3 * w)
  unfold wpX_next wpY_next
  dsimp only
  have em : (1 : Int32) <<< (nI (3 * w) &&& 31) - 1 = nI (2 ^ (3 * w) - 1) := by
    rw [bz_1in hw.2]
    show nI (2 ^ (3 * w)) - nI 1 = _
    rw [pk_sub hp0]
  rw [em]
  by_cases h0 : v1 < 0
  · have hlt : v1 < nI (2 ^ (3 * w) - 1) := Int32.lt_of_lt_of_le h0 (nI_pos' (by omega))
    refine br_t hlt (bz_join hrc R.1 (by omega) R.2.2.2.2.2.1 (fun N1 e e1 g1 d1 => ?_))
    refine br_f (Int32.not_le.mpr h0) ?_
    refine bz_first (x := 0) e1.1 d1 hp0 (fun r st ip hr => ?_)
    refine bz_back R.1 e1 (fun N2 e2 g2 => ?_)
    refine bz_after R.2.2.2.2.2.2 (lo := 0) (fun x hx => ⟨fun z => absurd (Int32.lt_of_le_of_lt (Int32.le_trans (nI_pos' (by omega)) z) h0) (by decide), fun z => by omega⟩) (fun r' va tr hr' => ?_)
    exact ⟨bz_LI_uq hr' hr, bz_in k (bz_R_X R e2 g2)⟩
  · obtain ⟨m, hm, rfl⟩ := nI_of h0
    by_cases q : m < 2 ^ (3 * w) - 1
    · refine br_t (nI_lt q (by omega)) (bz_join hrc R.1 (by omega) R.2.2.2.2.2.1 (fun N1 e e1 g1 d1 => ?_))
      refine br_t (nI_pos' hm) ?_
      rw [nI_1]
      refine bz_first (x := m + 1) e1.1 d1 (by omega) (fun r st ip hr => ?_)
      refine bz_back R.1 e1 (fun N2 e2 g2 => ?_)
      refine bz_after R.2.2.2.2.2.2 (lo := m + 1) (fun x hx => by rw [nI_leI (by omega) hm]; omega) (fun r' va tr hr' => ?_)
      exact ⟨bz_LI_uq hr' hr, bz_in k (bz_R_X R e2 g2)⟩
    · refine br_f (nI_nlt (by omega) hm) ?_
      refine bz_after R.2.2.2.2.2.2 (lo := m + 1) (fun x hx => by rw [nI_leI (by omega) hm]; omega) (fun r' va tr hr' => ?_)
      exact ⟨bz_LI_uq hr' (Or.inl ⟨rfl, fun x h1 h2 => by omega⟩), bz_in k R⟩
theorem bz_m_follows (k : Nat) (v1 : Int32) (R : bz_R w tc ec rc N V T Q pt pe tb te rq od kd aa bb cc so ss tt wa sg) : wpX_follows (fun r u' => wpY_follows (fun r' v' => r' = r ∧ i_Rel k u' v') (nI w, nI (2 ^ w), nI (2 ^ (3 * w)), nI tc, nI ec, nI rc, nI (tc + ec), od, kd, aa, bb, cc, so, ss, tt, wa, sg, va, tr) v1) (nI w, nI (3 * w), nI N.1, nI tc, nI ec, nI rc, N.2.1, N.2.2.1, N.2.2.2.1, N.2.2.2.2, st, tb, te, rq, sm, pa, ip) v1 := by
  obtain ⟨hw, htc, hec, hrc⟩ := bz_Rb R
  have hG := R.2.1
  have hp := bz_p12 hw.2
  have hp0 := Nat.two_pow_pos (3 * w)
  unfold wpX_follows wpY_follows
  dsimp only
  rcases bz_ok v1 (n := ec) (by omega) with h | ⟨t, ht, rfl⟩
  · exact bz_xE0 h (br_t rfl (bz_yE0 h (br_f (by decide) ⟨rfl, bz_in k R⟩)))
  · refine bz_xE1 hec ht (br_f (by decide) ?_)
    rw [nI_clamp (n := t) (by omega)]
    have ht16 : vp_in (nI t) 16 := vp_in_nI (by omega) (by omega)
    have hT := R.2.2.2.2.1 t ht
    refine bz_join hrc R.1 (by omega) R.2.2.2.2.2.1 (fun N1 u1 e1 g1 d1 => ⟨ht16, ?_⟩)
    refine bz_gate e1.1 (by omega) d1 (bz_ed_not (bz_ed_X e1 hT)) (fun N2 u2 e2 g2 d2 => ⟨ht16, ?_⟩)
    refine bz_gate e2.1 (by omega) (bz_ed_X e2 d1) (bz_ed_X (bz_X_tr e1 e2) hT) (fun N3 u3 e3 g3 d3 => ?_)
    have E : bz_X w N N3 := bz_X_tr (bz_X_tr e1 e2) e3
    have fin : ∀ (r : Int32), (r = if bz_any (bz_all Q rc) (fun x => !T t x) (2 ^ (3 * w)) = false then 1 else if bz_any (bz_all Q rc) (T t) (2 ^ (3 * w)) = false then 0 else 2) → ∀ st ip,
        wX_follows_80 (fun r u' => wpY_badTest (fun r_1 => ((r_1 = 0 → ∃ n17, wY_follows_17 (fun r' v' => r' = r ∧ i_Rel k u' v') (nI t) n17 0 0 0 (nI w) (nI (2 ^ w)) (nI (2 ^ (3 * w))) (nI tc) (nI ec) (nI rc) (nI (tc + ec)) od kd aa bb cc so ss tt wa sg va tr) ∧ (¬ r_1 = 0 → (-1 = r ∧ i_Rel k u' (nI w, nI (2 ^ w), nI (2 ^ (3 * w)), nI tc, nI ec, nI rc, nI (tc + ec), od, kd, aa, bb, cc, so, ss, tt, wa, sg, va, tr))))) (nI w, nI (2 ^ w), nI (2 ^ (3 * w)), nI tc, nI ec, nI rc, nI (tc + ec), od, kd, aa, bb, cc, so, ss, tt, wa, sg, va, tr) (nI t)) (nI N.1) r (nI w) (nI (3 * w)) (nI N3.1) (nI tc) (nI ec) (nI rc) N3.2.1 N3.2.2.1 N3.2.2.2.1 N3.2.2.2.2 st tb te rq sm pa ip := by
      intro r hr st ip
      refine bz_back R.1 E (fun N4 e4 g4 => ?_)
      refine bz_yE1 hec ht (br_t rfl ⟨2 ^ (3 * w) + 1, ?_⟩)
      exact bz_fol17 R.2.2.2.2.2.2 ht (fun va tr => ⟨hr.symm, bz_in k (bz_R_X R e4 g4)⟩) (2 ^ (3 * w)) 0 _ va tr (by omega) (by omega)
    refine bz_first (x := 0) e3.1 (bz_ed_X e3 d2) hp0 (fun r st ip hr => ?_)
    refine bz_LI_c (by omega) hr (fun m m1 m2 m3 => ?_) (fun hf => ?_)
    · have hno : ¬ bz_any (bz_all Q rc) (fun x => !T t x) (2 ^ (3 * w)) = false := fun z => by
        have := bz_any_f.mp z m m2
        rw [this] at m3; cases m3
      refine bz_first (x := 0) e3.1 d3 hp0 (fun r2 st2 ip2 hr2 => ?_)
      refine bz_LI_c (by omega) hr2 (fun m' m1' m2' m3' => fin 2 ?_ st2 ip2) (fun hf2 => fin 0 ?_ st2 ip2)
      · have hyes : ¬ bz_any (bz_all Q rc) (T t) (2 ^ (3 * w)) = false := fun z => by
          have := bz_any_f.mp z m' m2'
          rw [this] at m3'; cases m3'
        rw [if_neg hno, if_neg hyes]
      · rw [if_neg hno, if_pos (bz_any_f.mpr (fun x hx => hf2 x (by omega) hx))]
    · refine fin 1 ?_ st ip
      rw [if_pos (bz_any_f.mpr (fun x hx => hf x (by omega) hx))]
theorem bz_m_same (k : Nat) (v1 v2 : Int32) (R : bz_R w tc ec rc N V T Q pt pe tb te rq od kd aa bb cc so ss tt wa sg) : wpX_same (fun r u' => wpY_same (fun r' v' => r' = r ∧ i_Rel k u' v') (nI w, nI (2 ^ w), nI (2 ^ (3 * w)), nI tc, nI ec, nI rc, nI (tc + ec), od, kd, aa, bb, cc, so, ss, tt, wa, sg, va, tr) v1 v2) (nI w, nI (3 * w), nI N.1, nI tc, nI ec, nI rc, N.2.1, N.2.2.1, N.2.2.2.1, N.2.2.2.2, st, tb, te, rq, sm, pa, ip) v1 v2 := by
  obtain ⟨hw, htc, hec, hrc⟩ := bz_Rb R
  have hG := R.2.1
  have hp := bz_p12 hw.2
  have hp0 := Nat.two_pow_pos (3 * w)
  unfold wpX_same wpY_same
  dsimp only
  rcases bz_ok v1 (n := tc) (by omega) with h | ⟨a, ha, rfl⟩
  · exact bz_xT0 h (br_t rfl (bz_yT0 h (br_f (by decide) ⟨rfl, bz_in k R⟩)))
  · refine bz_xT1 htc ha (br_f (by decide) ?_)
    rcases bz_ok v2 (n := tc) (by omega) with h | ⟨b, hb, rfl⟩
    · exact bz_xT0 h (br_t rfl (bz_yT1 htc ha (br_t rfl (bz_yT0 h (br_f (by decide) ⟨rfl, bz_in k R⟩)))))
    · have hVa := R.2.2.1 a ha
      have hVb := R.2.2.1 b hb
      refine bz_xT1 htc hb (br_f (by decide) ?_)
      refine bz_equal (by omega) (by omega) R.1 (by omega) (R.2.2.2.1 a ha) (R.2.2.2.1 b hb) (fun N1 e e1 g1 d1 => ?_)
      have d2 : bz_ed w N1 (e ^^^ 1) (fun x => !decide (V a x = V b x)) := bz_ed_eq (bz_ed_not d1) (fun x => by rw [bz_tbv (hVa x), bz_tbv (hVb x)])
      refine bz_first (x := 0) e1.1 d2 hp0 (fun r st ip hr => ?_)
      refine bz_back R.1 e1 (fun N2 e2 g2 => ?_)
      refine bz_LI_c (by omega) hr (fun m m1 m2 m3 => ?_) (fun hf => ?_)
      · refine bz_yT1 htc ha (br_t rfl (bz_yT1 htc hb (br_t rfl ⟨2 ^ (3 * w) + 1, ?_⟩)))
        refine bz_same20 R.2.2.2.2.2.2 ha hb hVa hVb (fun z => ?_) (fun x _ _ va tr => ⟨rfl, bz_in k (bz_R_X R e2 g2)⟩) (2 ^ (3 * w)) 0 _ va tr (by omega) (by omega) (fun x h => by omega)
        rw [z m m2] at m3
        simp at m3
      · refine bz_yT1 htc ha (br_t rfl (bz_yT1 htc hb (br_t rfl ⟨2 ^ (3 * w) + 1, ?_⟩)))
        refine bz_same20 R.2.2.2.2.2.2 ha hb hVa hVb (fun _ va tr => ⟨rfl, bz_in k (bz_R_X R e2 g2)⟩) (fun x hx z => ?_) (2 ^ (3 * w)) 0 _ va tr (by omega) (by omega) (fun x h => by omega)
        have := hf x (by omega) hx
        rw [decide_eq_false z] at this
        cases this
end
end
section
/-! least, greatest -/
theorem bz_eb1 (F : Bool) (y v : Nat) : ((F && decide (y / 2 = v)) && decide (y % 2 = 1)) = (F && decide (y = 2 * v + 1)) := by
  cases F
  · rfl
  · rw [Bool.true_and, Bool.true_and, ← Bool.decide_and]
    exact decide_eq_decide.mpr (by omega)
theorem bz_eb0 (F : Bool) (y v : Nat) : ((F && decide (y / 2 = v)) && !decide (y % 2 = 1)) = (F && decide (y = 2 * v + 0)) := by
  cases F
  · rfl
  · rw [Bool.true_and, Bool.true_and, ← decide_not, ← Bool.decide_and]
    exact decide_eq_decide.mpr (by omega)
section
variable {w tc ec rc : Nat} {V : Nat → Nat → Nat} {T Q : Nat → Nat → Bool} {pt pe : Nat → Nat} {st tb te rq sm pa ip od kd aa bb cc so ss tt wa sg va tr : Nat → Int32}
theorem bz_ex137 {post : Int32 → SX → Prop} {N : bz_T} {J : Int32 → Int32 → Int32 → Int32 → Int32 → Int32 → Int32 → Int32 → Int32 → (Nat → Int32) → (Nat → Int32) → (Nat → Int32) → (Nat → Int32) → (Nat → Int32) → (Nat → Int32) → (Nat → Int32) → (Nat → Int32) → (Nat → Int32) → (Nat → Int32) → (Nat → Int32) → Prop}
    {x1 x3 e : Int32} {b can : Bool} {val m : Nat} (K : J e (nI (2 * val + (can == b).toNat)) (nI m + (-1)) (nI w) (nI (3 * w)) (nI N.1) (nI tc) (nI ec) (nI rc) N.2.1 N.2.2.1 N.2.2.2.1 N.2.2.2.2 st tb te rq sm pa ip) :
    wX_extreme_137 post J x1 (bz_I b) x3 (nI val) (nI m) (bz_I can) e (nI w) (nI (3 * w)) (nI N.1) (nI tc) (nI ec) (nI rc) N.2.1 N.2.2.1 N.2.2.2.1 N.2.2.2.2 st tb te rq sm pa ip := by
  have e0 : (2 : Int32) * nI val + 0 = nI (2 * val + 0) := by
    show nI 2 * nI val + nI 0 = _
    rw [pk_mul, nI_add]
  have e1 : (2 : Int32) * nI val + 1 = nI (2 * val + 1) := by
    show nI 2 * nI val + nI 1 = _
    rw [pk_mul, nI_add]
  cases can <;> cases b
  · exact br_t rfl (nm_r e1 (nm_e K))
  · exact br_t rfl (nm_r e0 (nm_e K))
  · exact br_f (by decide) (nm_r e0 (nm_e K))
  · exact br_f (by decide) (nm_r e1 (nm_e K))
theorem bz_ex50 {post : Int32 → SX → Prop} {f : Nat → Bool} {c : Nat → Nat} {b : Bool} {a : Nat} {N0 : bz_T} (hN0 : bz_NI w N0) (ha : a < 28)
    (K : ∀ N v st ip, bz_X w N0 N → N.1 = N0.1 → bz_Em b f c (2 ^ (3 * w)) v → post (nI v) (nI w, nI (3 * w), nI N.1, nI tc, nI ec, nI rc, N.2.1, N.2.2.1, N.2.2.2.1, N.2.2.2.2, st, tb, te, rq, sm, pa, ip)) :
    ∀ (m n : Nat) (N : bz_T) (e : Int32) (val : Nat) (x6 : Int32) (st ip : Nat → Int32), m < n → m ≤ w → bz_X w N0 N → N.1 + 2 * m ≤ 6000 →
    (∀ j, j < w → bz_ed w N (tb (4 * a + j)) (fun x => (c x).testBit j)) →
    bz_ed w N e (fun x => f x && decide (c x / 2 ^ m = val)) →
    (∃ x, x < 2 ^ (3 * w) ∧ f x = true ∧ c x / 2 ^ m = val) →
    (∀ x, x < 2 ^ (3 * w) → f x = true → (b = true → c x / 2 ^ m ≤ val) ∧ (b = false → val ≤ c x / 2 ^ m)) → x6 = nI m + (-1) →
    wX_extreme_50 post (nI a) (bz_I b) (nI N0.1) n e (nI val) x6 (nI w) (nI (3 * w)) (nI N.1) (nI tc) (nI ec) (nI rc) N.2.1 N.2.2.1 N.2.2.2.1 N.2.2.2.2 st tb te rq sm pa ip := by
  have hw := hN0.1
  have hp := bz_p12 hw.2
  have hp0 := Nat.two_pow_pos (3 * w)
  intro m
  induction m with
  | zero =>
    intro n N e val x6 st ip hn hm hX hG hA he hex hop hx
    obtain ⟨n, rfl⟩ : ∃ q, n = q + 1 := ⟨n - 1, by omega⟩
    subst hx
    refine br_t (by decide) (bz_back hN0 hX (fun N2 e2 g2 => K N2 val st ip e2 g2 ?_))
    simp only [Nat.pow_zero, Nat.div_one] at hex hop
    exact ⟨hex, hop⟩
  | succ m ih =>
    intro n N e val x6 st ip hn hm hX hG hA he hex hop hx
    obtain ⟨n, rfl⟩ : ∃ q, n = q + 1 := ⟨n - 1, by omega⟩
    rw [pk_m1] at hx
    subst hx
    have ey : ∀ x, c x / 2 ^ (m + 1) = c x / 2 ^ m / 2 := fun x => by rw [Nat.div_div_eq_div_mul, ← Nat.pow_succ]
    have et : ∀ x, (c x).testBit m = decide (c x / 2 ^ m % 2 = 1) := fun x => Nat.testBit_eq_decide_div_mod_eq
    have hbit := bz_ed_eq (hA m (by omega)) et
    have he' : bz_ed w N e (fun x => f x && decide (c x / 2 ^ m / 2 = val)) := bz_ed_eq he (fun x => by rw [ey])
    simp only [ey] at hex hop
    clear he
    have fnl : ∀ (can : Bool) (N2 : bz_T) (e2 : Int32) (st ip : Nat → Int32), bz_X w N N2 → N2.1 ≤ N.1 + 2 → bz_ed w N2 e2 (fun x => f x && decide (c x / 2 ^ m = 2 * val + (can == b).toNat)) →
        (∃ x, x < 2 ^ (3 * w) ∧ f x = true ∧ c x / 2 ^ m = 2 * val + (can == b).toNat) →
        (∀ x, x < 2 ^ (3 * w) → f x = true → (b = true → c x / 2 ^ m ≤ 2 * val + (can == b).toNat) ∧ (b = false → 2 * val + (can == b).toNat ≤ c x / 2 ^ m)) →
        wX_extreme_137 post (wX_extreme_50 post (nI a) (bz_I b) (nI N0.1) n) (nI a) (bz_I b) (nI N0.1) (nI val) (nI m) (bz_I can) e2 (nI w) (nI (3 * w)) (nI N2.1) (nI tc) (nI ec) (nI rc) N2.2.1 N2.2.2.1 N2.2.2.2.1 N2.2.2.2.2 st tb te rq sm pa ip := by
      intro can N2 e2 st ip hX2 hG2 he2 hex2 hop2
      refine bz_ex137 (ih n N2 e2 _ _ st ip (by omega) (by omega) (bz_X_tr hX hX2) (by omega) (fun j hj => bz_ed_X hX2 (hA j hj)) he2 hex2 hop2 rfl)
    refine br_f (nI_pos (by omega)) ?_
    rw [bz_ix, nI_clamp (n := 4 * a + m) (by omega)]
    refine ⟨vp_in_nI (by omega) (by omega), nm_e ?_⟩
    obtain ⟨x0, hx0, fx0, cx0⟩ := hex
    cases b with
    | true =>
      refine br_t rfl ?_
      refine bz_gate hX.1 (by omega) he' hbit (fun N1 v1 e1 g1 d1 => ?_)
      have d1' : bz_ed w N1 v1 (fun x => f x && decide (c x / 2 ^ m = 2 * val + 1)) := bz_ed_eq d1 (fun x => bz_eb1 _ _ _)
      refine bz_first (x := 0) e1.1 d1' hp0 (fun r st1 ip1 hr => bz_LI_neg (by omega) hr (fun hf => ?_) (fun q _ _ hq fq _ => ?_))
      · refine br_t rfl (br_t rfl ?_)
        refine bz_gate e1.1 (by omega) (bz_ed_X e1 he') (bz_ed_not (bz_ed_X e1 hbit)) (fun N2 v2 e2 g2 d2 => ?_)
        have key : ∀ x, x < 2 ^ (3 * w) → f x = true → ¬ c x / 2 ^ m = 2 * val + 1 := by
          intro x hx fx z
          have := hf x (by omega) hx
          rw [fx, decide_eq_true z] at this
          cases this
        refine fnl false N2 v2 st1 ip1 (bz_X_tr e1 e2) (by omega) (bz_ed_eq d2 (fun x => bz_eb0 _ _ _)) ⟨x0, hx0, fx0, ?_⟩ (fun x hx fx => ⟨fun _ => ?_, fun z => by cases z⟩)
        · have := key x0 hx0 fx0
          show c x0 / 2 ^ m = 2 * val + 0
          omega
        · have h1 := key x hx fx
          have h2 := (hop x hx fx).1 rfl
          show c x / 2 ^ m ≤ 2 * val + 0
          omega
      · refine br_f (by decide) ?_
        rw [Bool.and_eq_true, decide_eq_true_eq] at fq
        refine fnl true N1 v1 st1 ip1 e1 (by omega) d1' ⟨q, by omega, fq.1, fq.2⟩ (fun x hx fx => ⟨fun _ => ?_, fun z => by cases z⟩)
        have h2 := (hop x hx fx).1 rfl
        show c x / 2 ^ m ≤ 2 * val + 1
        omega
    | false =>
      refine br_f (by decide) ?_
      refine bz_gate hX.1 (by omega) he' (bz_ed_not hbit) (fun N1 v1 e1 g1 d1 => ?_)
      have d1' : bz_ed w N1 v1 (fun x => f x && decide (c x / 2 ^ m = 2 * val + 0)) := bz_ed_eq d1 (fun x => bz_eb0 _ _ _)
      refine bz_first (x := 0) e1.1 d1' hp0 (fun r st1 ip1 hr => bz_LI_neg (by omega) hr (fun hf => ?_) (fun q _ _ hq fq _ => ?_))
      · refine br_t rfl (br_f (by decide) ?_)
        refine bz_gate e1.1 (by omega) (bz_ed_X e1 he') (bz_ed_X e1 hbit) (fun N2 v2 e2 g2 d2 => ?_)
        have key : ∀ x, x < 2 ^ (3 * w) → f x = true → ¬ c x / 2 ^ m = 2 * val + 0 := by
          intro x hx fx z
          have := hf x (by omega) hx
          rw [fx, decide_eq_true z] at this
          cases this
        refine fnl false N2 v2 st1 ip1 (bz_X_tr e1 e2) (by omega) (bz_ed_eq d2 (fun x => bz_eb1 _ _ _)) ⟨x0, hx0, fx0, ?_⟩ (fun x hx fx => ⟨fun z => (by cases z), fun _ => ?_⟩)
        · have := key x0 hx0 fx0
          show c x0 / 2 ^ m = 2 * val + 1
          omega
        · have h1 := key x hx fx
          have h2 := (hop x hx fx).2 rfl
          show 2 * val + 1 ≤ c x / 2 ^ m
          omega
      · refine br_f (by decide) ?_
        rw [Bool.and_eq_true, decide_eq_true_eq] at fq
        refine fnl true N1 v1 st1 ip1 e1 (by omega) d1' ⟨q, by omega, fq.1, fq.2⟩ (fun x hx fx => ⟨fun z => (by cases z), fun _ => ?_⟩)
        have h2 := (hop x hx fx).2 rfl
        show 2 * val + 0 ≤ c x / 2 ^ m
        omega
variable {N : bz_T}
theorem bz_xext {post : Int32 → SX → Prop} {a : Nat} {b : Bool} (R : bz_R w tc ec rc N V T Q pt pe tb te rq od kd aa bb cc so ss tt wa sg) (ha : a < tc)
    (K : ∀ r N' st ip, bz_X w N N' → N'.1 = N.1 → bz_E b (bz_all Q rc) (V a) (2 ^ (3 * w)) r → post r (nI w, nI (3 * w), nI N'.1, nI tc, nI ec, nI rc, N'.2.1, N'.2.2.1, N'.2.2.2.1, N'.2.2.2.2, st, tb, te, rq, sm, pa, ip)) : wpX_extreme post (nI w, nI (3 * w), nI N.1, nI tc, nI ec, nI rc, N.2.1, N.2.2.1, N.2.2.2.1, N.2.2.2.2, st, tb, te, rq, sm, pa, ip) (nI a) (bz_I b) := by
  obtain ⟨hw, htc, hec, hrc⟩ := bz_Rb R
  have hG := R.2.1
  have hp := bz_p12 hw.2
  have hp0 := Nat.two_pow_pos (3 * w)
  have hV := R.2.2.1 a ha
  unfold wpX_extreme
  dsimp only
  refine bz_xT1 htc ha (br_f (by decide) ?_)
  refine bz_join hrc R.1 (by omega) R.2.2.2.2.2.1 (fun N1 e e1 g1 d1 => ?_)
  refine bz_first (x := 0) e1.1 d1 hp0 (fun r st ip hr => bz_LI_c (by omega) hr (fun m _ m2 m3 => ?_) (fun hf => ?_))
  · have d0 : ∀ x, V a x / 2 ^ w = 0 := fun x => Nat.div_eq_of_lt (hV x)
    have hx6 : nI w - 1 = nI w + (-1) := by
      obtain ⟨w', rfl⟩ : ∃ q, w = q + 1 := ⟨w - 1, by omega⟩
      rw [nI_pred, pk_m1]
    refine nm_r hx6 ⟨w + 1, ?_⟩
    refine bz_ex50 (f := bz_all Q rc) (c := V a) (b := b) R.1 (by omega) (fun N' v st ip h1 h2 h3 => K _ N' st ip h1 h2 (Or.inr ⟨v, rfl, h3⟩)) w (w + 1) N1 e 0 _ st ip (by omega) (Nat.le_refl _) e1 (by omega)
      (fun j hj => bz_ed_X e1 (R.2.2.2.1 a ha j hj)) (bz_ed_eq d1 (fun x => ?_)) ⟨m, m2, m3, d0 m⟩ (fun x _ _ => ⟨fun _ => ?_, fun _ => ?_⟩) rfl
    · rw [d0 x]; simp
    · rw [d0 x]; exact Nat.le_refl _
    · exact Nat.zero_le _
  · exact bz_back R.1 e1 (fun N2 e2 g2 => K _ N2 st ip e2 g2 (Or.inl ⟨rfl, fun x hx => hf x (by omega) hx⟩))
theorem bz_yext {post : Int32 → SY → Prop} {a : Nat} {b : Bool} (R : bz_R w tc ec rc N V T Q pt pe tb te rq od kd aa bb cc so ss tt wa sg) (ha : a < tc)
    (K : ∀ r va tr, bz_E b (bz_all Q rc) (V a) (2 ^ (3 * w)) r → post r (nI w, nI (2 ^ w), nI (2 ^ (3 * w)), nI tc, nI ec, nI rc, nI (tc + ec), od, kd, aa, bb, cc, so, ss, tt, wa, sg, va, tr)) : wpY_extreme post (nI w, nI (2 ^ w), nI (2 ^ (3 * w)), nI tc, nI ec, nI rc, nI (tc + ec), od, kd, aa, bb, cc, so, ss, tt, wa, sg, va, tr) (nI a) (bz_I (!b)) := by
  obtain ⟨hw, htc, hec, hrc⟩ := bz_Rb R
  unfold wpY_extreme
  dsimp only
  refine bz_yT1 htc ha (br_t rfl ⟨2 ^ (3 * w) + 1, ?_⟩)
  exact bz_ext16 R.2.2.2.2.2.2 ha (R.2.2.1 a ha) K (2 ^ (3 * w)) 0 _ (-2) va tr (by omega) (by omega) (Or.inl ⟨rfl, fun x h => by omega⟩)
theorem bz_xext0 {post : Int32 → SX → Prop} {p q : Int32} (h : p < 0 ∨ nI tc ≤ p) (K : post (-1) (nI w, nI (3 * w), nI N.1, nI tc, nI ec, nI rc, N.2.1, N.2.2.1, N.2.2.2.1, N.2.2.2.2, st, tb, te, rq, sm, pa, ip)) : wpX_extreme post (nI w, nI (3 * w), nI N.1, nI tc, nI ec, nI rc, N.2.1, N.2.2.1, N.2.2.2.1, N.2.2.2.2, st, tb, te, rq, sm, pa, ip) p q := by
  unfold wpX_extreme
  dsimp only
  exact bz_xT0 h (br_t rfl K)
theorem bz_yext0 {post : Int32 → SY → Prop} {p q : Int32} (h : p < 0 ∨ nI tc ≤ p) (K : post (-1) (nI w, nI (2 ^ w), nI (2 ^ (3 * w)), nI tc, nI ec, nI rc, nI (tc + ec), od, kd, aa, bb, cc, so, ss, tt, wa, sg, va, tr)) : wpY_extreme post (nI w, nI (2 ^ w), nI (2 ^ (3 * w)), nI tc, nI ec, nI rc, nI (tc + ec), od, kd, aa, bb, cc, so, ss, tt, wa, sg, va, tr) p q := by
  unfold wpY_extreme
  dsimp only
  exact bz_yT0 h (br_f (by decide) K)
theorem bz_m_least (k : Nat) (v1 : Int32) (R : bz_R w tc ec rc N V T Q pt pe tb te rq od kd aa bb cc so ss tt wa sg) : wpX_least (fun r u' => wpY_least (fun r' v' => r' = r ∧ i_Rel k u' v') (nI w, nI (2 ^ w), nI (2 ^ (3 * w)), nI tc, nI ec, nI rc, nI (tc + ec), od, kd, aa, bb, cc, so, ss, tt, wa, sg, va, tr) v1) (nI w, nI (3 * w), nI N.1, nI tc, nI ec, nI rc, N.2.1, N.2.2.1, N.2.2.2.1, N.2.2.2.2, st, tb, te, rq, sm, pa, ip) v1 := by
  obtain ⟨hw, htc, hec, hrc⟩ := bz_Rb R
  unfold wpX_least wpY_least
  dsimp only
  rcases bz_ok v1 (n := tc) (by omega) with h | ⟨a, ha, rfl⟩
  · exact bz_xext0 h (bz_yext0 h ⟨rfl, bz_in k R⟩)
  · refine bz_xext (b := false) R ha (fun r N' st ip e1 g1 hE => ?_)
    exact bz_yext (b := false) R ha (fun r' va tr hE' => ⟨bz_E_uq hE' hE, bz_in k (bz_R_X R e1 g1)⟩)
theorem bz_m_greatest (k : Nat) (v1 : Int32) (R : bz_R w tc ec rc N V T Q pt pe tb te rq od kd aa bb cc so ss tt wa sg) : wpX_greatest (fun r u' => wpY_greatest (fun r' v' => r' = r ∧ i_Rel k u' v') (nI w, nI (2 ^ w), nI (2 ^ (3 * w)), nI tc, nI ec, nI rc, nI (tc + ec), od, kd, aa, bb, cc, so, ss, tt, wa, sg, va, tr) v1) (nI w, nI (3 * w), nI N.1, nI tc, nI ec, nI rc, N.2.1, N.2.2.1, N.2.2.2.1, N.2.2.2.2, st, tb, te, rq, sm, pa, ip) v1 := by
  obtain ⟨hw, htc, hec, hrc⟩ := bz_Rb R
  unfold wpX_greatest wpY_greatest
  dsimp only
  rcases bz_ok v1 (n := tc) (by omega) with h | ⟨a, ha, rfl⟩
  · exact bz_xext0 h (bz_yext0 h ⟨rfl, bz_in k R⟩)
  · refine bz_xext (b := true) R ha (fun r N' st ip e1 g1 hE => ?_)
    exact bz_yext (b := true) R ha (fun r' va tr hE' => ⟨bz_E_uq hE' hE, bz_in k (bz_R_X R e1 g1)⟩)
end
end
section
/-! the constructors -/
theorem bz_clamp (x : Int32) : (¬ 1 ≤ x) ∨ (∃ w, (1 ≤ w ∧ w ≤ 4) ∧ x = nI w) ∨ (1 ≤ x ∧ ¬ x ≤ 4) := by
  by_cases h1 : 1 ≤ x
  · by_cases h4 : x ≤ 4
    · obtain ⟨j, hj, rfl⟩ := nI_of2 (x := x) (M := 4) (n := 4) (by decide) (Int32.not_lt.mpr (Int32.le_trans (by decide) h1)) h4
      have : 1 ≤ j := (nI_leI (a := 1) (by omega) (by omega)).mp h1
      exact Or.inr (Or.inl ⟨j, ⟨this, hj⟩, rfl⟩)
    · exact Or.inr (Or.inr ⟨h1, h4⟩)
  · exact Or.inl h1
theorem bz_R0 {w : Nat} (hw : 1 ≤ w ∧ w ≤ 4) : bz_R w 0 0 0 (13, (fun _ => 0), (fun _ => 0), (fun _ => 0), (fun _ => 0)) (fun _ _ => 0) (fun _ _ => false) (fun _ _ => false) (fun _ => 0) (fun _ => 0)
    (fun _ => 0) (fun _ => 0) (fun _ => 0) (fun _ => 0) (fun _ => 0) (fun _ => 0) (fun _ => 0) (fun _ => 0) (fun _ => 0) (fun _ => 0) (fun _ => 0) (fun _ => 0) (fun _ => 0) := by
  refine ⟨⟨hw, ⟨Nat.le_refl _, by dsimp only; omega⟩, fun g h1 h2 => ?_, fun g h1 h2 => ?_, fun k _ => Or.inl rfl⟩, by dsimp only; omega, fun i h => by omega, fun i h => by omega, fun i h => by omega, fun i h => by omega,
    hw, by omega, by omega, by omega, ⟨⟨rfl, rfl⟩, ⟨rfl, rfl⟩, fun m h => by omega⟩, fun k h => by omega⟩
  · dsimp only at h2; omega
  · dsimp only at h2; omega
theorem bz_i0 (k : Nat) {w : Nat} (hw : 1 ≤ w ∧ w ≤ 4) : i_Rel k (nI w, nI (3 * w), 13, 0, 0, 0, (fun _ => 0), (fun _ => 0), (fun _ => 0), (fun _ => 0), (fun _ => 0), (fun _ => 0), (fun _ => 0), (fun _ => 0), (fun _ => 0), (fun _ => 0), (fun _ => 0))
    (nI w, nI (2 ^ w), nI (2 ^ (3 * w)), 0, 0, 0, 0, (fun _ => 0), (fun _ => 0), (fun _ => 0), (fun _ => 0), (fun _ => 0), (fun _ => 0), (fun _ => 0), (fun _ => 0), (fun _ => 0), (fun _ => 0), (fun _ => 0), (fun _ => 0)) :=
  bz_in k (bz_R0 hw)
theorem bz_3w (w : Nat) : 3 * nI w = nI (3 * w) := pk_mul 3 w
theorem bz_1w {w : Nat} (hw : w ≤ 4) : (1 : Int32) <<< (nI w &&& 31) = nI (2 ^ w) := by
  have := bz_2w hw
  show nI 1 <<< (nI w &&& 31) = _
  rw [pk_shlN _ w (s_l _ (by omega)) (by omega), Nat.one_mul]
theorem bz_y120 (k : Nat) {w : Nat} (hw : 1 ≤ w ∧ w ≤ 4) : wY_init_120 (fun v => i_Rel k (nI w, nI (3 * w), 13, 0, 0, 0, (fun _ => 0), (fun _ => 0), (fun _ => 0), (fun _ => 0), (fun _ => 0), (fun _ => 0), (fun _ => 0), (fun _ => 0), (fun _ => 0), (fun _ => 0), (fun _ => 0)) v)
    (nI w) 0 0 0 0 0 0 0 (fun _ => 0) (fun _ => 0) (fun _ => 0) (fun _ => 0) (fun _ => 0) (fun _ => 0) (fun _ => 0) (fun _ => 0) (fun _ => 0) (fun _ => 0) (fun _ => 0) (fun _ => 0) := by
  unfold wY_init_120
  rw [bz_1w hw.2, bz_3w, bz_1in hw.2]
  exact nm_e (nm_e (bz_i0 k hw))
theorem i_vc0 (k0 : Int32) : wpX_init (fun u => wpY_init (fun v => i_Rel 1 u v) k0) k0 := by
  rcases bz_clamp k0 with h | ⟨w, hw, rfl⟩ | ⟨h1, h4⟩
  · exact br_f h (br_t (by decide) (nm_r (bz_3w 1) (br_f h (bz_y120 1 (w := 1) (by omega)))))
  · have h1 : (1 : Int32) ≤ nI w := nI_le (a := 1) hw.1 (by omega)
    have h4 : nI w ≤ 4 := nI_le (b := 4) hw.2 (by omega)
    exact br_t h1 (br_t h4 (nm_r (bz_3w w) (br_t h1 (br_t h4 (bz_y120 1 hw)))))
  · exact br_t h1 (br_f h4 (nm_r (bz_3w 4) (br_t h1 (br_f h4 (bz_y120 1 (w := 4) (by omega))))))
end
section
/-! the owed statements -/
theorem i_up {k : Nat} {u : SX} {v : SY} (h : i_Rel k u v) : i_Rel (k + 4) u v := h
theorem i_vc_width {k : Nat} {u : SX} {v : SY} (I : i_Rel k u v) (hk : k + 4 ≤ 2049) : wpX_width (fun r => wpY_width (fun r' => r' = r ∧ i_Rel (k + 4) u v) v) u :=
  bz_el (P := fun u v => wpX_width (fun r => wpY_width (fun r' => r' = r ∧ i_Rel (k + 4) u v) v) u) (fun w tc ec rc N V T Q pt pe st tb te rq sm pa ip od kd aa bb cc so ss tt wa sg va tr R => ⟨rfl, bz_in _ R⟩) I
theorem i_vc_variable {k : Nat} {u : SX} {v : SY} (I : i_Rel k u v) (hk : k + 4 ≤ 2049) (v1 : Int32) : wpX_variable (fun r u' => wpY_variable (fun r' v' => r' = r ∧ i_Rel (k + 4) u' v') v v1) u v1 :=
  bz_el (P := fun u v => wpX_variable (fun r u' => wpY_variable (fun r' v' => r' = r ∧ i_Rel (k + 4) u' v') v v1) u v1) (fun w tc ec rc N V T Q pt pe st tb te rq sm pa ip od kd aa bb cc so ss tt wa sg va tr R => bz_m_variable (k + 4) v1 R) I
theorem i_vc_constant {k : Nat} {u : SX} {v : SY} (I : i_Rel k u v) (hk : k + 4 ≤ 2049) (v1 : Int32) : wpX_constant (fun r u' => wpY_constant (fun r' v' => r' = r ∧ i_Rel (k + 4) u' v') v v1) u v1 :=
  bz_el (P := fun u v => wpX_constant (fun r u' => wpY_constant (fun r' v' => r' = r ∧ i_Rel (k + 4) u' v') v v1) u v1) (fun w tc ec rc N V T Q pt pe st tb te rq sm pa ip od kd aa bb cc so ss tt wa sg va tr R => bz_m_constant (k + 4) v1 R) I
theorem i_vc_combine {k : Nat} {u : SX} {v : SY} (I : i_Rel k u v) (hk : k + 4 ≤ 2049) (v1 : Int32) (v2 : Int32) (v3 : Int32) : wpX_combine (fun r u' => wpY_combine (fun r' v' => r' = r ∧ i_Rel (k + 4) u' v') v v1 v2 v3) u v1 v2 v3 :=
  bz_el (P := fun u v => wpX_combine (fun r u' => wpY_combine (fun r' v' => r' = r ∧ i_Rel (k + 4) u' v') v v1 v2 v3) u v1 v2 v3) (fun w tc ec rc N V T Q pt pe st tb te rq sm pa ip od kd aa bb cc so ss tt wa sg va tr R => bz_m_combine (k + 4) v1 v2 v3 R) I
theorem i_vc_invert {k : Nat} {u : SX} {v : SY} (I : i_Rel k u v) (hk : k + 4 ≤ 2049) (v1 : Int32) : wpX_invert (fun r u' => wpY_invert (fun r' v' => r' = r ∧ i_Rel (k + 4) u' v') v v1) u v1 :=
  bz_el (P := fun u v => wpX_invert (fun r u' => wpY_invert (fun r' v' => r' = r ∧ i_Rel (k + 4) u' v') v v1) u v1) (fun w tc ec rc N V T Q pt pe st tb te rq sm pa ip od kd aa bb cc so ss tt wa sg va tr R => bz_m_invert (k + 4) v1 R) I
theorem i_vc_shift {k : Nat} {u : SX} {v : SY} (I : i_Rel k u v) (hk : k + 4 ≤ 2049) (v1 : Int32) (v2 : Int32) : wpX_shift (fun r u' => wpY_shift (fun r' v' => r' = r ∧ i_Rel (k + 4) u' v') v v1 v2) u v1 v2 :=
  bz_el (P := fun u v => wpX_shift (fun r u' => wpY_shift (fun r' v' => r' = r ∧ i_Rel (k + 4) u' v') v v1 v2) u v1 v2) (fun w tc ec rc N V T Q pt pe st tb te rq sm pa ip od kd aa bb cc so ss tt wa sg va tr R => bz_m_shift (k + 4) v1 v2 R) I
theorem i_vc_choose {k : Nat} {u : SX} {v : SY} (I : i_Rel k u v) (hk : k + 4 ≤ 2049) (v1 : Int32) (v2 : Int32) (v3 : Int32) : wpX_choose (fun r u' => wpY_choose (fun r' v' => r' = r ∧ i_Rel (k + 4) u' v') v v1 v2 v3) u v1 v2 v3 :=
  bz_el (P := fun u v => wpX_choose (fun r u' => wpY_choose (fun r' v' => r' = r ∧ i_Rel (k + 4) u' v') v v1 v2 v3) u v1 v2 v3) (fun w tc ec rc N V T Q pt pe st tb te rq sm pa ip od kd aa bb cc so ss tt wa sg va tr R => bz_m_choose (k + 4) v1 v2 v3 R) I
theorem i_vc_compare {k : Nat} {u : SX} {v : SY} (I : i_Rel k u v) (hk : k + 4 ≤ 2049) (v1 : Int32) (v2 : Int32) (v3 : Int32) : wpX_compare (fun r u' => wpY_compare (fun r' v' => r' = r ∧ i_Rel (k + 4) u' v') v v1 v2 v3) u v1 v2 v3 :=
  bz_el (P := fun u v => wpX_compare (fun r u' => wpY_compare (fun r' v' => r' = r ∧ i_Rel (k + 4) u' v') v v1 v2 v3) u v1 v2 v3) (fun w tc ec rc N V T Q pt pe st tb te rq sm pa ip od kd aa bb cc so ss tt wa sg va tr R => bz_m_compare (k + 4) v1 v2 v3 R) I
theorem i_vc_connect {k : Nat} {u : SX} {v : SY} (I : i_Rel k u v) (hk : k + 4 ≤ 2049) (v1 : Int32) (v2 : Int32) (v3 : Int32) : wpX_connect (fun r u' => wpY_connect (fun r' v' => r' = r ∧ i_Rel (k + 4) u' v') v v1 v2 v3) u v1 v2 v3 :=
  bz_el (P := fun u v => wpX_connect (fun r u' => wpY_connect (fun r' v' => r' = r ∧ i_Rel (k + 4) u' v') v v1 v2 v3) u v1 v2 v3) (fun w tc ec rc N V T Q pt pe st tb te rq sm pa ip od kd aa bb cc so ss tt wa sg va tr R => bz_m_connect (k + 4) v1 v2 v3 R) I
theorem i_vc_require {k : Nat} {u : SX} {v : SY} (I : i_Rel k u v) (hk : k + 4 ≤ 2049) (v1 : Int32) (v2 : Int32) : wpX_require (fun r u' => wpY_require (fun r' v' => r' = r ∧ i_Rel (k + 4) u' v') v v1 v2) u v1 v2 :=
  bz_el (P := fun u v => wpX_require (fun r u' => wpY_require (fun r' v' => r' = r ∧ i_Rel (k + 4) u' v') v v1 v2) u v1 v2) (fun w tc ec rc N V T Q pt pe st tb te rq sm pa ip od kd aa bb cc so ss tt wa sg va tr R => bz_m_require (k + 4) v1 v2 R) I
theorem i_vc_release {k : Nat} {u : SX} {v : SY} (I : i_Rel k u v) (hk : k + 4 ≤ 2049) : wpX_release (fun r u' => wpY_release (fun r' v' => r' = r ∧ i_Rel (k + 4) u' v') v) u :=
  bz_el (P := fun u v => wpX_release (fun r u' => wpY_release (fun r' v' => r' = r ∧ i_Rel (k + 4) u' v') v) u) (fun w tc ec rc N V T Q pt pe st tb te rq sm pa ip od kd aa bb cc so ss tt wa sg va tr R => bz_m_release (k + 4) R) I
theorem i_vc_terms {k : Nat} {u : SX} {v : SY} (I : i_Rel k u v) (hk : k + 4 ≤ 2049) : wpX_terms (fun r => wpY_terms (fun r' => r' = r ∧ i_Rel (k + 4) u v) v) u :=
  bz_el (P := fun u v => wpX_terms (fun r => wpY_terms (fun r' => r' = r ∧ i_Rel (k + 4) u v) v) u) (fun w tc ec rc N V T Q pt pe st tb te rq sm pa ip od kd aa bb cc so ss tt wa sg va tr R => ⟨rfl, bz_in _ R⟩) I
theorem i_vc_tests {k : Nat} {u : SX} {v : SY} (I : i_Rel k u v) (hk : k + 4 ≤ 2049) : wpX_tests (fun r => wpY_tests (fun r' => r' = r ∧ i_Rel (k + 4) u v) v) u :=
  bz_el (P := fun u v => wpX_tests (fun r => wpY_tests (fun r' => r' = r ∧ i_Rel (k + 4) u v) v) u) (fun w tc ec rc N V T Q pt pe st tb te rq sm pa ip od kd aa bb cc so ss tt wa sg va tr R => ⟨rfl, bz_in _ R⟩) I
theorem i_vc_valueOf {k : Nat} {u : SX} {v : SY} (I : i_Rel k u v) (hk : k + 4 ≤ 2049) (v1 : Int32) (v2 : Int32) : wpX_valueOf (fun r u' => wpY_valueOf (fun r' v' => r' = r ∧ i_Rel (k + 4) u' v') v v1 v2) u v1 v2 :=
  bz_el (P := fun u v => wpX_valueOf (fun r u' => wpY_valueOf (fun r' v' => r' = r ∧ i_Rel (k + 4) u' v') v v1 v2) u v1 v2) (fun w tc ec rc N V T Q pt pe st tb te rq sm pa ip od kd aa bb cc so ss tt wa sg va tr R => bz_m_valueOf (k + 4) v1 v2 R) I
theorem i_vc_holds {k : Nat} {u : SX} {v : SY} (I : i_Rel k u v) (hk : k + 4 ≤ 2049) (v1 : Int32) (v2 : Int32) : wpX_holds (fun r u' => wpY_holds (fun r' v' => r' = r ∧ i_Rel (k + 4) u' v') v v1 v2) u v1 v2 :=
  bz_el (P := fun u v => wpX_holds (fun r u' => wpY_holds (fun r' v' => r' = r ∧ i_Rel (k + 4) u' v') v v1 v2) u v1 v2) (fun w tc ec rc N V T Q pt pe st tb te rq sm pa ip od kd aa bb cc so ss tt wa sg va tr R => bz_m_holds (k + 4) v1 v2 R) I
theorem i_vc_solvable {k : Nat} {u : SX} {v : SY} (I : i_Rel k u v) (hk : k + 4 ≤ 2049) : wpX_solvable (fun r u' => wpY_solvable (fun r' v' => r' = r ∧ i_Rel (k + 4) u' v') v) u :=
  bz_el (P := fun u v => wpX_solvable (fun r u' => wpY_solvable (fun r' v' => r' = r ∧ i_Rel (k + 4) u' v') v) u) (fun w tc ec rc N V T Q pt pe st tb te rq sm pa ip od kd aa bb cc so ss tt wa sg va tr R => bz_m_solvable (k + 4) R) I
theorem i_vc_next {k : Nat} {u : SX} {v : SY} (I : i_Rel k u v) (hk : k + 4 ≤ 2049) (v1 : Int32) : wpX_next (fun r u' => wpY_next (fun r' v' => r' = r ∧ i_Rel (k + 4) u' v') v v1) u v1 :=
  bz_el (P := fun u v => wpX_next (fun r u' => wpY_next (fun r' v' => r' = r ∧ i_Rel (k + 4) u' v') v v1) u v1) (fun w tc ec rc N V T Q pt pe st tb te rq sm pa ip od kd aa bb cc so ss tt wa sg va tr R => bz_m_next (k + 4) v1 R) I
theorem i_vc_count {k : Nat} {u : SX} {v : SY} (I : i_Rel k u v) (hk : k + 4 ≤ 2049) : wpX_count (fun r u' => wpY_count (fun r' v' => r' = r ∧ i_Rel (k + 4) u' v') v) u :=
  bz_el (P := fun u v => wpX_count (fun r u' => wpY_count (fun r' v' => r' = r ∧ i_Rel (k + 4) u' v') v) u) (fun w tc ec rc N V T Q pt pe st tb te rq sm pa ip od kd aa bb cc so ss tt wa sg va tr R => bz_m_count (k + 4) R) I
theorem i_vc_least {k : Nat} {u : SX} {v : SY} (I : i_Rel k u v) (hk : k + 4 ≤ 2049) (v1 : Int32) : wpX_least (fun r u' => wpY_least (fun r' v' => r' = r ∧ i_Rel (k + 4) u' v') v v1) u v1 :=
  bz_el (P := fun u v => wpX_least (fun r u' => wpY_least (fun r' v' => r' = r ∧ i_Rel (k + 4) u' v') v v1) u v1) (fun w tc ec rc N V T Q pt pe st tb te rq sm pa ip od kd aa bb cc so ss tt wa sg va tr R => bz_m_least (k + 4) v1 R) I
theorem i_vc_greatest {k : Nat} {u : SX} {v : SY} (I : i_Rel k u v) (hk : k + 4 ≤ 2049) (v1 : Int32) : wpX_greatest (fun r u' => wpY_greatest (fun r' v' => r' = r ∧ i_Rel (k + 4) u' v') v v1) u v1 :=
  bz_el (P := fun u v => wpX_greatest (fun r u' => wpY_greatest (fun r' v' => r' = r ∧ i_Rel (k + 4) u' v') v v1) u v1) (fun w tc ec rc N V T Q pt pe st tb te rq sm pa ip od kd aa bb cc so ss tt wa sg va tr R => bz_m_greatest (k + 4) v1 R) I
theorem i_vc_follows {k : Nat} {u : SX} {v : SY} (I : i_Rel k u v) (hk : k + 4 ≤ 2049) (v1 : Int32) : wpX_follows (fun r u' => wpY_follows (fun r' v' => r' = r ∧ i_Rel (k + 4) u' v') v v1) u v1 :=
  bz_el (P := fun u v => wpX_follows (fun r u' => wpY_follows (fun r' v' => r' = r ∧ i_Rel (k + 4) u' v') v v1) u v1) (fun w tc ec rc N V T Q pt pe st tb te rq sm pa ip od kd aa bb cc so ss tt wa sg va tr R => bz_m_follows (k + 4) v1 R) I
theorem i_vc_same {k : Nat} {u : SX} {v : SY} (I : i_Rel k u v) (hk : k + 4 ≤ 2049) (v1 : Int32) (v2 : Int32) : wpX_same (fun r u' => wpY_same (fun r' v' => r' = r ∧ i_Rel (k + 4) u' v') v v1 v2) u v1 v2 :=
  bz_el (P := fun u v => wpX_same (fun r u' => wpY_same (fun r' v' => r' = r ∧ i_Rel (k + 4) u' v') v v1 v2) u v1 v2) (fun w tc ec rc N V T Q pt pe st tb te rq sm pa ip od kd aa bb cc so ss tt wa sg va tr R => bz_m_same (k + 4) v1 v2 R) I
end
