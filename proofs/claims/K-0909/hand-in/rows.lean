section
/-! rows pasted from the kit's rows to paste (pure rows) -/
theorem pk_us {f : Nat → Int32} {k : Nat} {x : Int32} : upd f k x k = x := if_pos rfl
theorem pk_un {f : Nat → Int32} {k j : Nat} {x : Int32} (h : j ≠ k) : upd f k x j = f j := if_neg h
theorem pk_sub {a b : Nat} (h : b ≤ a) : nI a - nI b = nI (a - b) := by
  obtain ⟨c, rfl⟩ : ∃ c, a = c + b := ⟨a - b, by omega⟩
  rw [← nI_add, Int32.add_sub_cancel, Nat.add_sub_cancel]
theorem pk_m1 (n : Nat) : nI (n + 1) + (-1) = nI n := by
  rw [← nI_1, Int32.add_assoc, show (1 : Int32) + (-1) = 0 from rfl, Int32.add_zero]
theorem pk_mul (a b : Nat) : nI a * nI b = nI (a * b) := (Int32.ofNat_mul a b).symm
theorem pk_le {x y : Int32} {A B : Prop} (a b : Nat) (f : a ≤ b → A) (g : b < a → B) (hx : x = nI a := by rfl) (hy : y = nI b := by rfl) (ha : a < 2 ^ 31 := by omega) (hb : b < 2 ^ 31 := by omega) : (x ≤ y → A) ∧ (¬ x ≤ y → B) := by
  subst hx hy
  rw [nI_leI ha hb]
  exact ⟨f, fun z => g (by omega)⟩
theorem pk_lt {x y : Int32} {A B : Prop} (a b : Nat) (f : a < b → A) (g : b ≤ a → B) (hx : x = nI a := by rfl) (hy : y = nI b := by rfl) (ha : a < 2 ^ 31 := by omega) (hb : b < 2 ^ 31 := by omega) : (x < y → A) ∧ (¬ x < y → B) := by
  subst hx hy
  rw [nI_ltI ha hb]
  exact ⟨f, fun z => g (by omega)⟩
theorem pk_eq {x y : Int32} {A B : Prop} (a b : Nat) (f : a = b → A) (g : a ≠ b → B) (hx : x = nI a := by rfl) (hy : y = nI b := by rfl) (ha : a < 2 ^ 31 := by omega) (hb : b < 2 ^ 31 := by omega) : (x = y → A) ∧ (¬ x = y → B) := by
  subst hx hy
  rw [nI_eq ha hb]
  exact ⟨f, g⟩
theorem pk_in {x : Int32} (n N : Nat) (h : n < N) (hx : x = nI n := by rfl) (hN : N < 2 ^ 31 := by omega) : vp_in x N := by
  subst hx
  exact vp_in_nI h hN
theorem pk_cl {x : Int32} (n : Nat) (hx : x = nI n := by rfl) (h : n < 2 ^ 31 := by omega) : x.toNatClampNeg = n := by
  subst hx
  exact nI_clamp h
theorem pk_tn {n : Nat} (h : n < 2 ^ 32) : (nI n).toBitVec.toNat = n := Nat.mod_eq_of_lt h
theorem pk_and (x : Int32) {m : Int32} (k : Nat) (hm : m.toBitVec.toNat = 2 ^ k - 1) : x &&& m = nI (x.toBitVec.toNat % 2 ^ k) := by
  apply Int32.toBitVec_inj.mp
  apply BitVec.eq_of_toNat_eq
  rw [Int32.toBitVec_and, BitVec.toNat_and, hm, Nat.and_two_pow_sub_one_eq_mod]
  show _ = (BitVec.ofNat 32 _).toNat
  rw [BitVec.toNat_ofNat]
  exact (Nat.mod_eq_of_lt (Nat.lt_of_le_of_lt (Nat.mod_le _ _) x.toBitVec.isLt)).symm
theorem pk_andN {n : Nat} (h : n < 2 ^ 32) {m : Int32} (k : Nat) (hm : m.toBitVec.toNat = 2 ^ k - 1) : nI n &&& m = nI (n % 2 ^ k) := by
  rw [pk_and _ k hm, pk_tn h]
theorem pk_shl (a s : Int32) (k : Nat) (hs : (s.toBitVec.smod 32).toNat = k) : (a <<< s).toBitVec.toNat = a.toBitVec.toNat * 2 ^ k % 2 ^ 32 := by
  show (a.toBitVec <<< (s.toBitVec.smod 32).toNat).toNat = _
  rw [hs, BitVec.toNat_shiftLeft, Nat.shiftLeft_eq]
theorem pk_shlN {n : Nat} (s : Int32) (k : Nat) (hs : (s.toBitVec.smod 32).toNat = k) (h : n * 2 ^ k < 2 ^ 32) : nI n <<< s = nI (n * 2 ^ k) := by
  apply Int32.toBitVec_inj.mp
  apply BitVec.eq_of_toNat_eq
  have hn : n < 2 ^ 32 := Nat.lt_of_le_of_lt (Nat.le_mul_of_pos_right n (Nat.two_pow_pos k)) h
  rw [pk_shl _ _ k hs, pk_tn hn, pk_tn h, Nat.mod_eq_of_lt h]
theorem pk_ushr (x s : Int32) (k : Nat) (hs : ((s.toUInt32 &&& Int32.toUInt32 31).toBitVec % 32).toNat = k) : (x.toUInt32 >>> (s.toUInt32 &&& Int32.toUInt32 31)).toInt32.toBitVec.toNat = x.toBitVec.toNat / 2 ^ k := by
  have e : (x.toUInt32 >>> (s.toUInt32 &&& Int32.toUInt32 31)).toInt32.toBitVec = x.toBitVec >>> k := by
    rw [← hs]
    exact UInt32.toBitVec_shiftRight _ _
  rw [e, BitVec.toNat_ushiftRight, Nat.shiftRight_eq_div_pow]
theorem pk_ushrN {n : Nat} (hn : n < 2 ^ 32) (s : Int32) (k : Nat) (hs : ((s.toUInt32 &&& Int32.toUInt32 31).toBitVec % 32).toNat = k) : ((nI n).toUInt32 >>> (s.toUInt32 &&& Int32.toUInt32 31)).toInt32 = nI (n / 2 ^ k) := by
  apply Int32.toBitVec_inj.mp
  apply BitVec.eq_of_toNat_eq
  rw [pk_ushr _ s k hs, pk_tn hn, pk_tn (Nat.lt_of_le_of_lt (Nat.div_le_self _ _) hn)]
theorem pk_nb (z : Int32) : narrow .byte (.int z.toInt8.toInt32) = .int z.toInt8.toInt32 := congrArg Value.int (by simp)
theorem pk_charN {q : Nat} (hq : q < 65536) : narrow .char (.int (nI q)) = .int (nI q) ∧ fits .char (.int (nI q)) = true := by
  constructor
  · have e : (nI q).toUInt32.toUInt16.toUInt32.toInt32 = nI q := by
      apply Int32.toBitVec_inj.mp
      apply BitVec.eq_of_toNat_eq
      show (nI q).toUInt32.toUInt16.toUInt32.toNat = q % 2 ^ 32
      rw [UInt16.toNat_toUInt32, UInt32.toNat_toUInt16, show (nI q).toUInt32.toNat = q % 2 ^ 32 from rfl]
      omega
    exact congrArg Value.int e
  · have a : (0 : Int32) ≤ nI q := nI_pos' (by omega)
    have b : nI q ≤ 65535 := nI_le (b := 65535) (by omega) (by decide)
    show (decide ((0 : Int32) ≤ nI q) && decide (nI q ≤ 65535)) = true
    rw [decide_eq_true a, decide_eq_true b]
    rfl
theorem pk_char (x : Int32) : (x.toUInt32 % 65536).toInt32 = nI (x.toBitVec.toNat % 65536) := by
  apply Int32.toBitVec_inj.mp
  apply BitVec.eq_of_toNat_eq
  rw [pk_tn (by omega)]
  show (x.toUInt32 % 65536).toNat = _
  rw [UInt32.toNat_mod]
  rfl
theorem pk_nc (x : Int32) : narrow .char (.int (x.toUInt32 % 65536).toInt32) = .int (x.toUInt32 % 65536).toInt32 := by
  rw [pk_char]
  exact (pk_charN (Nat.mod_lt _ (by decide))).1
theorem pk_vb (z : Int32) : vp_nar .byte z.toInt8.toInt32 = z.toInt8.toInt32 := by rw [vp_nar_byte]; simp
theorem pk_vc (z : Int32) : vp_nar .char (z.toUInt32 % 65536).toInt32 = (z.toUInt32 % 65536).toInt32 := Value.int.inj (pk_nc z)
end
section
/-! sums over the first n places, counts, and the exchange of two sums: plain naturals, no program -/
def pm_sm (f : Nat → Nat) : Nat → Nat
  | 0 => 0
  | n + 1 => pm_sm f n + f n
theorem pm_sm_s (f : Nat → Nat) (n : Nat) : pm_sm f (n + 1) = pm_sm f n + f n := rfl
theorem pm_sm_le {f g : Nat → Nat} : ∀ n, (∀ e, e < n → f e ≤ g e) → pm_sm f n ≤ pm_sm g n := by
  intro n
  induction n with
  | zero => intro _; exact Nat.le_refl _
  | succ n ih =>
    intro h
    have a := ih (fun e he => h e (by omega))
    have b := h n (by omega)
    rw [pm_sm_s, pm_sm_s]
    omega
theorem pm_sm_eq {f g : Nat → Nat} : ∀ n, (∀ e, e < n → f e = g e) → pm_sm f n = pm_sm g n := by
  intro n
  induction n with
  | zero => intro _; rfl
  | succ n ih =>
    intro h
    rw [pm_sm_s, pm_sm_s, ih (fun e he => h e (by omega)), h n (by omega)]
theorem pm_sm_add (f g : Nat → Nat) : ∀ n, pm_sm (fun e => f e + g e) n = pm_sm f n + pm_sm g n := by
  intro n
  induction n with
  | zero => rfl
  | succ n ih =>
    rw [pm_sm_s, pm_sm_s, pm_sm_s, ih]
    omega
theorem pm_sm_ge {f : Nat → Nat} {k : Nat} : ∀ n, k < n → f k ≤ pm_sm f n := by
  intro n
  induction n with
  | zero => intro h; omega
  | succ n ih =>
    intro h
    rw [pm_sm_s]
    by_cases e : k = n
    · subst e; omega
    · have := ih (by omega)
      omega
theorem pm_sm_at {f g : Nat → Nat} {k : Nat} : ∀ n, k < n → (∀ e, e < n → e ≠ k → f e = g e) → pm_sm f n + g k = pm_sm g n + f k := by
  intro n
  induction n with
  | zero => intro h; omega
  | succ n ih =>
    intro h hf
    rw [pm_sm_s, pm_sm_s]
    by_cases e : k = n
    · subst e
      have := pm_sm_eq (f := f) (g := g) k (fun e he => hf e (by omega) (by omega))
      omega
    · have a := ih (by omega) (fun e he => hf e (by omega))
      have b := hf n (by omega) (by omega)
      omega
theorem pm_sm_0 (n : Nat) : pm_sm (fun _ => 0) n = 0 := by
  induction n with
  | zero => rfl
  | succ n ih => rw [pm_sm_s, ih]
theorem pm_sm_1 {f : Nat → Nat} : ∀ n, (∀ e, e < n → f e ≤ 1) → pm_sm f n ≤ n := by
  intro n
  induction n with
  | zero => intro _; exact Nat.le_refl _
  | succ n ih =>
    intro h
    have a := ih (fun e he => h e (by omega))
    have b := h n (by omega)
    rw [pm_sm_s]
    omega
/-- how many places below 8 hold v -/
def pm_ct (x : Nat → Nat) (v : Nat) : Nat := pm_sm (fun e => if x e = v then 1 else 0) 8
/-- how many places below 8 hold anything -/
def pm_rm (s : Nat → Nat) : Nat := pm_sm (fun e => if s e = 0 then 0 else 1) 8
def pm_up (f : Nat → Nat) (k v : Nat) : Nat → Nat := fun j => if j = k then v else f j
theorem pm_us (f : Nat → Nat) (k v : Nat) : pm_up f k v k = v := if_pos rfl
theorem pm_un {f : Nat → Nat} {k j : Nat} (v : Nat) (h : j ≠ k) : pm_up f k v j = f j := if_neg h
theorem pm_ct_up {x : Nat → Nat} {k : Nat} (u v : Nat) (hk : k < 8) : pm_ct (pm_up x k u) v + (if x k = v then 1 else 0) = pm_ct x v + (if u = v then 1 else 0) := by
  have h := pm_sm_at (f := fun e => if pm_up x k u e = v then 1 else 0) (g := fun e => if x e = v then 1 else 0) 8 hk (fun e _ he => by
    show (if pm_up x k u e = v then 1 else 0) = (if x e = v then 1 else 0)
    rw [pm_un u he])
  have h2 : (if pm_up x k u k = v then 1 else 0) = (if u = v then 1 else 0) := by rw [pm_us]
  exact h.trans (congrArg (fun z => pm_ct x v + z) h2)
theorem pm_ct_8 (x : Nat → Nat) (v : Nat) : pm_ct x v ≤ 8 := pm_sm_1 8 (fun e _ => by
  show (if x e = v then 1 else 0) ≤ 1
  split <;> omega)
theorem pm_ct_pos {x : Nat → Nat} {v e : Nat} (he : e < 8) (h : x e = v) : 1 ≤ pm_ct x v := by
  have := pm_sm_ge (f := fun e => if x e = v then 1 else 0) (k := e) 8 he
  have h2 : (if x e = v then 1 else 0) = 1 := if_pos h
  have h3 : (if x e = v then 1 else 0) ≤ pm_ct x v := this
  omega
theorem pm_ct_eq {x y : Nat → Nat} {v : Nat} (h : ∀ e, e < 8 → (x e = v ↔ y e = v)) : pm_ct x v = pm_ct y v := pm_sm_eq 8 (fun e he => by
  show (if x e = v then 1 else 0) = (if y e = v then 1 else 0)
  have := h e he
  by_cases z : x e = v
  · rw [if_pos z, if_pos (this.mp z)]
  · rw [if_neg z, if_neg (fun q => z (this.mpr q))])
theorem pm_ct_no {x : Nat → Nat} {v : Nat} (h : ∀ e, e < 8 → x e ≠ v) : pm_ct x v = 0 := by
  have : pm_ct x v = pm_sm (fun _ => 0) 8 := pm_sm_eq 8 (fun e he => if_neg (h e he))
  rw [this, pm_sm_0]
theorem pm_rm_8 (s : Nat → Nat) : pm_rm s ≤ 8 := pm_sm_1 8 (fun e _ => by
  show (if s e = 0 then 0 else 1) ≤ 1
  split <;> omega)
theorem pm_rm_up {s : Nat → Nat} {k : Nat} (hk : k < 8) (h : s k ≠ 0) : pm_rm (pm_up s k 0) + 1 = pm_rm s := by
  have a := pm_sm_at (f := fun e => if pm_up s k 0 e = 0 then 0 else 1) (g := fun e => if s e = 0 then 0 else 1) 8 hk (fun e _ he => by
    show (if pm_up s k 0 e = 0 then 0 else 1) = (if s e = 0 then 0 else 1)
    rw [pm_un 0 he])
  have h1 : (if s k = 0 then 0 else 1) = 1 := if_neg h
  have h2 : (if pm_up s k 0 k = 0 then 0 else 1) = 0 := if_pos (pm_us s k 0)
  have b : pm_rm (pm_up s k 0) + (if s k = 0 then 0 else 1) = pm_rm s + (if pm_up s k 0 k = 0 then 0 else 1) := a
  omega
theorem pm_rm_0 {s : Nat → Nat} (h : pm_rm s = 0) : ∀ e, e < 8 → s e = 0 := by
  intro e he
  have a : (if s e = 0 then 0 else 1) ≤ pm_rm s := pm_sm_ge (f := fun e => if s e = 0 then 0 else 1) (k := e) 8 he
  by_cases z : s e = 0
  · exact z
  · rw [if_neg z] at a
    omega
theorem pm_rm_1 {s : Nat → Nat} {e : Nat} (he : e < 8) (h : s e ≠ 0) : 0 < pm_rm s := by
  rcases Nat.eq_zero_or_pos (pm_rm s) with z | z
  · exact absurd (pm_rm_0 z e he) h
  · exact z
/-- for one y: the number of v below m with y = v + 1 -/
theorem pm_one (y : Nat) : ∀ m, pm_sm (fun v => if y = v + 1 then 1 else 0) m = (if y = 0 then 0 else if y ≤ m then 1 else 0) := by
  intro m
  induction m with
  | zero =>
    show 0 = _
    by_cases a : y = 0
    · rw [if_pos a]
    · rw [if_neg a, if_neg (by omega)]
  | succ m ih =>
    rw [pm_sm_s, ih]
    show (if y = 0 then 0 else if y ≤ m then 1 else 0) + (if y = m + 1 then 1 else 0) = _
    by_cases a : y = 0
    · rw [if_pos a, if_pos a, if_neg (by omega)]
    · rw [if_neg a, if_neg a]
      by_cases b : y ≤ m
      · rw [if_pos b, if_neg (by omega), if_pos (by omega)]
      · by_cases d : y = m + 1
        · rw [if_neg b, if_pos d, if_pos (by omega)]
        · rw [if_neg b, if_neg d, if_neg (by omega)]
/-- the sum of all counts is the number of places that hold 1 .. m -/
theorem pm_ex (x : Nat → Nat) (m : Nat) : ∀ n, pm_sm (fun v => pm_sm (fun e => if x e = v + 1 then 1 else 0) n) m = pm_sm (fun e => if x e = 0 then 0 else if x e ≤ m then 1 else 0) n := by
  intro n
  induction n with
  | zero => exact pm_sm_0 m
  | succ n ih =>
    rw [pm_sm_s, ← ih, ← pm_one (x n) m]
    exact pm_sm_add (fun v => pm_sm (fun e => if x e = v + 1 then 1 else 0) n) (fun v => if x n = v + 1 then 1 else 0) m
/-- if every place that holds something is still read, nothing holds 9 -/
theorem pm_no9 {x w : Nat → Nat} (hx : ∀ e, e < 8 → x e ≤ 9) (hw : ∀ v, v < 8 → w v = pm_ct x (v + 1)) (hb : ∀ e, e < 8 → x e = 0 ∨ w e ≠ 0) : ∀ e, e < 8 → x e ≠ 9 := by
  have A : pm_rm x ≤ pm_sm w 8 := pm_sm_le 8 (fun e he => by
    show (if x e = 0 then 0 else 1) ≤ w e
    by_cases z : x e = 0
    · rw [if_pos z]; omega
    · rw [if_neg z]
      rcases hb e he with q | q
      · exact absurd q z
      · omega)
  have B : pm_sm w 8 = pm_sm (fun e => if x e = 0 then 0 else if x e ≤ 8 then 1 else 0) 8 := (pm_sm_eq 8 hw).trans (pm_ex x 8 8)
  have C : pm_sm (fun e => if x e = 0 then 0 else if x e ≤ 8 then 1 else 0) 8 + pm_ct x 9 = pm_rm x := by
    refine (pm_sm_add _ _ 8).symm.trans (pm_sm_eq 8 (fun e he => ?_))
    show (if x e = 0 then 0 else if x e ≤ 8 then 1 else 0) + (if x e = 9 then 1 else 0) = (if x e = 0 then 0 else 1)
    have := hx e he
    by_cases z : x e = 0
    · rw [if_pos z, if_pos z, if_neg (by omega)]
    · rw [if_neg z, if_neg z]
      by_cases q : x e ≤ 8
      · rw [if_pos q, if_neg (by omega)]
      · rw [if_neg q, if_pos (by omega)]
  intro e he q
  have := pm_ct_pos he q
  omega
end
section
/-! the invariant of the two schedules in lockstep: plain naturals, no program -/
/-- the component's src, out of the reference's src and its saved register (sv = saved + 1) -/
def pm_xs (s : Nat → Nat) (sv : Nat) : Nat → Nat := fun e => if s e = 0 then 0 else if s e = sv then 9 else s e
/-- the uses behind an emitted move of register e -/
def pm_dw (sv : Nat) (s w : Nat → Nat) (e : Nat) : Nat → Nat := if s e = sv then w else pm_up w (s e - 1) (w (s e - 1) - 1)
def pm_P (sv : Nat) (s w : Nat → Nat) : Prop := (∀ e, s e ≤ 8 ∧ s e ≠ e + 1) ∧ (∀ e, 8 ≤ e → s e = 0) ∧ sv ≤ 8 ∧ (∀ v, v < 8 → w v = pm_ct (pm_xs s sv) (v + 1))
def pm_I (t g sv : Nat) (s w l : Nat → Nat) (c : Nat) : Prop := pm_P sv s w ∧ (∀ q, q < t → t ≤ q + g → s (q % 8) = 0 ∨ w (q % 8) ≠ 0) ∧ (∀ q, q < t → t + 8 ≤ q + g → s (q % 8) = 0) ∧ g ≤ t ∧ t + 16 * pm_rm s ≤ 128 + g ∧ c + 2 * pm_rm s ≤ 16 ∧ (∀ i, l i < 4096)
/-- what the relation holds between two calls -/
def pm_OK (c : Nat) (s w l : Nat → Nat) : Prop := c ≤ 16 ∧ (∀ e, s e ≤ 8 ∧ s e ≠ e + 1) ∧ (∀ e, 8 ≤ e → s e = 0) ∧ (∀ v, v < 8 → w v = pm_ct s (v + 1)) ∧ (∀ i, l i < 4096)
theorem pm_xs_0 {s : Nat → Nat} {sv e : Nat} (h : s e = 0) : pm_xs s sv e = 0 := if_pos h
theorem pm_xs_9 {s : Nat → Nat} {sv e : Nat} (h : s e ≠ 0) (h2 : s e = sv) : pm_xs s sv e = 9 := (if_neg h).trans (if_pos h2)
theorem pm_xs_n {s : Nat → Nat} {sv e : Nat} (h : s e ≠ 0) (h2 : s e ≠ sv) : pm_xs s sv e = s e := (if_neg h).trans (if_neg h2)
theorem pm_xs_le {s : Nat → Nat} (hs : ∀ e, s e ≤ 8 ∧ s e ≠ e + 1) (sv e : Nat) : pm_xs s sv e ≤ 9 := by
  have := (hs e).1
  by_cases z : s e = 0
  · rw [pm_xs_0 z]; omega
  · by_cases q : s e = sv
    · rw [pm_xs_9 z q]; omega
    · rw [pm_xs_n z q]; omega
theorem pm_xs_z {s : Nat → Nat} {sv e : Nat} : pm_xs s sv e = 0 ↔ s e = 0 := by
  constructor
  · intro h
    by_cases z : s e = 0
    · exact z
    · by_cases q : s e = sv
      · rw [pm_xs_9 z q] at h; omega
      · rw [pm_xs_n z q] at h; exact h
  · exact pm_xs_0
theorem pm_xs_up (s : Nat → Nat) (sv e : Nat) : pm_xs (pm_up s e 0) sv = pm_up (pm_xs s sv) e 0 := by
  funext j
  by_cases h : j = e
  · subst h
    rw [pm_us, pm_xs_0 (pm_us s j 0)]
  · rw [pm_un 0 h]
    show (if pm_up s e 0 j = 0 then 0 else if pm_up s e 0 j = sv then 9 else pm_up s e 0 j) = _
    rw [pm_un 0 h]
    rfl
theorem pm_xs_id {s : Nat → Nat} {sv : Nat} (h : ∀ e, pm_xs s sv e ≠ 9) : pm_xs s sv = s := by
  funext e
  by_cases z : s e = 0
  · rw [pm_xs_0 z, z]
  · by_cases q : s e = sv
    · exact absurd (pm_xs_9 z q) (h e)
    · exact pm_xs_n z q
theorem pm_xs_s0 (s : Nat → Nat) : pm_xs s 0 = s := by
  funext e
  by_cases z : s e = 0
  · rw [pm_xs_0 z, z]
  · exact pm_xs_n z z
theorem pm_P_emit {sv : Nat} {s w : Nat → Nat} {e : Nat} (h : pm_P sv s w) (he : e < 8) (hs : s e ≠ 0) : pm_P sv (pm_up s e 0) (pm_dw sv s w e) := by
  obtain ⟨h1, h2, h3, h4⟩ := h
  refine ⟨fun j => ?_, fun j hj => ?_, h3, fun v hv => ?_⟩
  · by_cases z : j = e
    · subst z; rw [pm_us]; omega
    · rw [pm_un 0 z]; exact h1 j
  · rw [pm_un 0 (by omega)]; exact h2 j hj
  · rw [pm_xs_up]
    have a := pm_ct_up (x := pm_xs s sv) (k := e) 0 (v + 1) he
    have b := h4 v hv
    have d : (if (0 : Nat) = v + 1 then 1 else 0) = 0 := if_neg (by omega)
    have f := (h1 e).1
    by_cases q : s e = sv
    · have k : pm_dw sv s w e = w := if_pos q
      rw [pm_xs_9 hs q, if_neg (by omega)] at a
      rw [k]
      omega
    · have k : pm_dw sv s w e = pm_up w (s e - 1) (w (s e - 1) - 1) := if_neg q
      rw [pm_xs_n hs q] at a
      rw [k]
      by_cases z : v = s e - 1
      · rw [if_pos (by omega)] at a
        subst z
        rw [pm_us]
        omega
      · rw [if_neg (by omega)] at a
        rw [pm_un _ z]
        omega
theorem pm_P_save {sv : Nat} {s w : Nat → Nat} {d : Nat} (h : pm_P sv s w) (hd : d < 8) (hb : ∀ e, e < 8 → s e = 0 ∨ w e ≠ 0) : pm_P (d + 1) s (pm_up w d 0) ∧ pm_xs s sv = s := by
  obtain ⟨h1, h2, h3, h4⟩ := h
  have n9 := pm_no9 (x := pm_xs s sv) (w := w) (fun e _ => pm_xs_le h1 sv e) h4 (fun e he => (hb e he).imp pm_xs_z.mpr id)
  have id9 : pm_xs s sv = s := pm_xs_id (fun e => by
    by_cases z : e < 8
    · exact n9 e z
    · rw [pm_xs_0 (h2 e (by omega))]; omega)
  rw [id9] at h4
  refine ⟨⟨h1, h2, by omega, fun v hv => ?_⟩, id9⟩
  by_cases z : v = d
  · subst z
    rw [pm_us]
    refine (pm_ct_no (fun e he => ?_)).symm
    by_cases a : s e = 0
    · rw [pm_xs_0 a]; omega
    · by_cases b : s e = v + 1
      · rw [pm_xs_9 a b]; omega
      · rw [pm_xs_n a b]; exact b
  · rw [pm_un 0 z, h4 v hv]
    refine pm_ct_eq (fun e he => ?_)
    by_cases a : s e = 0
    · rw [pm_xs_0 a, a]
    · by_cases b : s e = d + 1
      · rw [pm_xs_9 a b]; omega
      · rw [pm_xs_n a b]
theorem pm_q {t e : Nat} (h : 8 ≤ t) (he : e < 8) : ∃ q, q < t ∧ t ≤ q + 8 ∧ q % 8 = e := ⟨t - 1 - (t + 7 - e) % 8, by omega, by omega, by omega⟩
theorem pm_I_g {t g sv : Nat} {s w l : Nat → Nat} {c : Nat} (h : pm_I t g sv s w l c) (hr : 0 < pm_rm s) : g ≤ 15 ∧ t < 128 := by
  obtain ⟨_, _, h3, h4, h5, _, _⟩ := h
  have hg : g ≤ 15 := by
    rcases Nat.lt_or_ge 15 g with z | z
    · have a : ∀ e, e < 8 → s e = 0 := fun e he => by
        obtain ⟨q, q1, q2, q3⟩ := pm_q (t := t) (e := e) (by omega) he
        rw [← q3]
        exact h3 q q1 (by omega)
      have b : pm_rm s = pm_sm (fun _ => 0) 8 := pm_sm_eq 8 (fun e he => if_pos (a e he))
      rw [pm_sm_0] at b
      omega
    · exact z
  exact ⟨hg, by omega⟩
theorem pm_I_b {t g sv : Nat} {s w l : Nat → Nat} {c : Nat} (h : pm_I t g sv s w l c) (hg : 8 ≤ g) : ∀ e, e < 8 → s e = 0 ∨ w e ≠ 0 := by
  obtain ⟨_, h2, _, h4, _, _, _⟩ := h
  intro e he
  obtain ⟨q, q1, q2, q3⟩ := pm_q (t := t) (e := e) (by omega) he
  rw [← q3]
  exact h2 q q1 (by omega)
theorem pm_I_idle {t g sv : Nat} {s w l : Nat → Nat} {c : Nat} (h : pm_I t g sv s w l c) (hi : s (t % 8) = 0 ∨ (w (t % 8) ≠ 0 ∧ g < 8)) : pm_I (t + 1) (g + 1) sv s w l c := by
  obtain ⟨h1, h2, h3, h4, h5, h6, h7⟩ := h
  refine ⟨h1, fun q a b => ?_, fun q a b => ?_, by omega, by omega, h6, h7⟩
  · by_cases z : q = t
    · subst z
      exact hi.imp id And.left
    · exact h2 q (by omega) (by omega)
  · by_cases z : q = t
    · subst z
      rcases hi with y | y
      · exact y
      · omega
    · exact h3 q (by omega) (by omega)
theorem pm_I_emit {t g sv : Nat} {s w l : Nat → Nat} {c m : Nat} (h : pm_I t g sv s w l c) (hs : s (t % 8) ≠ 0) (hm : m < 4096) : pm_I (t + 1) 0 sv (pm_up s (t % 8) 0) (pm_dw sv s w (t % 8)) (pm_up l c m) (c + 1) := by
  have he : t % 8 < 8 := Nat.mod_lt _ (by decide)
  have hg := (pm_I_g h (pm_rm_1 he hs)).1
  have hr := pm_rm_up he hs
  obtain ⟨h1, h2, h3, h4, h5, h6, h7⟩ := h
  refine ⟨pm_P_emit h1 he hs, fun q a b => by omega, fun q a b => by omega, by omega, by omega, by omega, fun i => ?_⟩
  by_cases z : i = c
  · subst z; rw [pm_us]; exact hm
  · rw [pm_un m z]; exact h7 i
theorem pm_I_save {t g sv : Nat} {s w l : Nat → Nat} {c m m' : Nat} (h : pm_I t g sv s w l c) (hg : 8 ≤ g) (hs : s (t % 8) ≠ 0) (hm : m < 4096) (hm' : m' < 4096) : pm_I (t + 1) 0 (t % 8 + 1) (pm_up s (t % 8) 0) (pm_dw (t % 8 + 1) s (pm_up w (t % 8) 0) (t % 8)) (pm_up (pm_up l c m) (c + 1) m') (c + 2) := by
  have he : t % 8 < 8 := Nat.mod_lt _ (by decide)
  have hb := pm_I_b h hg
  have hg := (pm_I_g h (pm_rm_1 he hs)).1
  have hr := pm_rm_up he hs
  obtain ⟨h1, h2, h3, h4, h5, h6, h7⟩ := h
  refine ⟨pm_P_emit (pm_P_save h1 he hb).1 he hs, fun q a b => by omega, fun q a b => by omega, by omega, by omega, by omega, fun i => ?_⟩
  by_cases z : i = c + 1
  · subst z; rw [pm_us]; exact hm'
  · rw [pm_un m' z]
    by_cases y : i = c
    · subst y; rw [pm_us]; exact hm
    · rw [pm_un m y]; exact h7 i
/-- the end: nothing is left -/
theorem pm_I_end {t g sv : Nat} {s w l : Nat → Nat} {c : Nat} (h : pm_I t g sv s w l c) (hr : pm_rm s = 0) : s = (fun _ => 0) ∧ pm_xs s sv = s ∧ pm_OK c s w l := by
  obtain ⟨⟨p1, p2, p3, p4⟩, h2, h3, h4, h5, h6, h7⟩ := h
  have z : ∀ e, s e = 0 := fun e => by
    by_cases q : e < 8
    · exact pm_rm_0 hr e q
    · exact p2 e (by omega)
  have x : pm_xs s sv = s := pm_xs_id (fun e => by rw [pm_xs_0 (z e)]; omega)
  rw [x] at p4
  exact ⟨funext z, x, by omega, p1, p2, p4, h7⟩
theorem pm_I_start {c : Nat} {s w l : Nat → Nat} (h : pm_OK c s w l) : pm_I 0 0 0 s w l 0 := by
  obtain ⟨h1, h2, h3, h4, h5⟩ := h
  have := pm_rm_8 s
  refine ⟨⟨h2, h3, by omega, ?_⟩, fun q a => by omega, fun q a => by omega, by omega, by omega, by omega, h5⟩
  rw [pm_xs_s0]
  exact h4
end
section
/-! the walks over pictures in naturals -/
def pm_ar (f : Nat → Nat) : Nat → Int32 := fun j => nI (f j)
theorem pm_ar_up (f : Nat → Nat) (k v : Nat) : upd (pm_ar f) k (nI v) = pm_ar (pm_up f k v) := by
  funext j
  by_cases h : j = k
  · subst h
    rw [pk_us]
    show _ = nI (pm_up f j v j)
    rw [pm_us]
  · rw [pk_un h]
    show nI (f j) = nI (pm_up f k v j)
    rw [pm_un v h]
theorem pm_m7 {e : Nat} (h : e < 8) : (nI e + 1) &&& 7 = nI ((e + 1) % 8) := by
  rw [nI_1]
  exact pk_andN (by omega) 3 (by decide)
theorem pm_a7 {e : Nat} (h : e < 8) : nI e &&& 7 = nI e := by
  rw [pk_andN (m := 7) (by omega) 3 (by decide)]
  exact congrArg nI (Nat.mod_eq_of_lt h)
theorem pm_a15 {e : Nat} (h : e < 16) : nI e &&& 15 = nI e := by
  rw [pk_andN (m := 15) (by omega) 4 (by decide)]
  exact congrArg nI (Nat.mod_eq_of_lt h)
theorem pm_s1 {a : Nat} (h : a ≠ 0) : nI a - 1 = nI (a - 1) := pk_sub (b := 1) (by omega)
theorem pm_mv0 : ∀ e, e < 8 → ∀ k, k < 9 → ((((nI e <<< ((8 : Int32) &&& 31)) ||| nI k).toUInt32 % 65536).toInt32) = nI (e * 256 + k) := by decide +kernel
theorem pm_mv {e k : Nat} (he : e < 8) (hk : k < 9) : vp_nar .char ((((nI e <<< ((8 : Int32) &&& 31)) ||| nI k).toUInt32 % 65536).toInt32) = nI (e * 256 + k) := (pk_vc _).trans (pm_mv0 e he k hk)
theorem pm_sv0 : ∀ e, e < 8 → (((2048 ||| nI e).toUInt32 % 65536).toInt32) = nI (2048 + e) := by decide +kernel
theorem pm_sv {e : Nat} (he : e < 8) : vp_nar .char (((2048 ||| nI e).toUInt32 % 65536).toInt32) = nI (2048 + e) := (pk_vc _).trans (pm_sv0 e he)
theorem pm_b0 : vp_nar .byte 0 = nI 0 := by rw [vp_nar_byte]; decide +kernel
theorem pm_b9 : vp_nar .byte 9 = nI 9 := by rw [vp_nar_byte]; decide +kernel
theorem pm_bd0 : ∀ m, m < 9 → 1 ≤ m → (nI m - 1).toInt8.toInt32 = nI (m - 1) := by decide +kernel
theorem pm_bd {m : Nat} (h : 1 ≤ m ∧ m ≤ 8) : vp_nar .byte ((nI m - 1).toInt8.toInt32) = nI (m - 1) := (pk_vb _).trans (pm_bd0 m (by omega) h.1)
theorem pm_bi0 : ∀ m, m < 9 → (nI m + 1).toInt8.toInt32 = nI (m + 1) := by decide +kernel
theorem pm_bi {m : Nat} (h : m ≤ 8) : vp_nar .byte ((nI m + 1).toInt8.toInt32) = nI (m + 1) := (pk_vb _).trans (pm_bi0 m (by omega))
theorem pm_ss : ∀ a, a < 9 → ∀ b, b < 9 → nI a - 1 = nI b - 1 → a = b := by decide +kernel
section
variable {post : Int32 → SX → Prop} {J : Int32 → Int32 → Int32 → Int32 → (Nat → Int32) → (Nat → Int32) → (Nat → Int32) → Prop}
theorem pm_X224a {R e g : Nat} {C : Int32} {A B L : Nat → Int32} (he : e < 8) (h : J (nI R) (nI ((e + 1) % 8)) (nI (g + 1)) C A B L) : wX_schedule_224 post J (nI R) (nI e) (nI g) 0 C A B L := br_t rfl (nm_r (nI_1 g) (nm_r (pm_m7 he) h))
theorem pm_X224b {R e : Nat} {G C : Int32} {A B L : Nat → Int32} (he : e < 8) (h : J (nI R) (nI ((e + 1) % 8)) 0 C A B L) : wX_schedule_224 post J (nI R) (nI e) G 1 C A B L := br_f (by decide) (nm_r (pm_m7 he) h)
theorem pm_X_skip {R e g : Nat} {C : Int32} {x w : Nat → Nat} {L : Nat → Int32} (he : e < 8) (hx : x e ≤ 9) (h0 : x e = 0 ∨ (w e ≠ 0 ∧ w e ≤ 8)) (h : J (nI R) (nI ((e + 1) % 8)) (nI (g + 1)) C (pm_ar x) (pm_ar w) L) : wX_schedule_132 post J (nI R) (nI e) (nI g) 0 C (pm_ar x) (pm_ar w) L := by
  unfold wX_schedule_132
  rw [nI_clamp (show e < 2 ^ 31 by omega)]
  have hi : vp_in (nI e) 8 := vp_in_nI he (by decide)
  refine ⟨hi, pk_eq (x e) 0 (fun _ => pm_X224a he h) (fun z => ⟨hi, ?_⟩)⟩
  have k : w e ≠ 0 ∧ w e ≤ 8 := by omega
  exact br_f (nI_ne0 (by omega) (by omega)) (pm_X224a he h)
theorem pm_X_emit {R e g c : Nat} {x w l : Nat → Nat} {x4 : Int32} (he : e < 8) (hx0 : x e ≠ 0) (hx : x e ≤ 9) (hw : w e = 0) (hc : c < 16) (hd : x e ≤ 8 → 1 ≤ w (x e - 1) ∧ w (x e - 1) ≤ 8) (h : J (nI R) (nI ((e + 1) % 8)) 0 (nI (c + 1)) (pm_ar (pm_up x e 0)) (pm_ar (if x e = 9 then w else pm_up w (x e - 1) (w (x e - 1) - 1))) (pm_ar (pm_up l c (e * 256 + (x e - 1))))) : wX_schedule_132 post J (nI (R + 1)) (nI e) (nI g) x4 (nI c) (pm_ar x) (pm_ar w) (pm_ar l) := by
  unfold wX_schedule_132
  rw [nI_clamp (show e < 2 ^ 31 by omega), nI_clamp (show c < 2 ^ 31 by omega)]
  have hi : vp_in (nI e) 8 := vp_in_nI he (by decide)
  have hci : vp_in (nI c) 16 := vp_in_nI hc (by decide)
  have e0 : pm_ar w e = 0 := (congrArg nI hw).trans nI_0
  have e1 : pm_ar x e - 1 = nI (x e - 1) := pm_s1 hx0
  have e2 : upd (pm_ar l) c (vp_nar .char ((((nI e <<< ((8 : Int32) &&& 31)) ||| nI (x e - 1)).toUInt32 % 65536).toInt32)) = pm_ar (pm_up l c (e * 256 + (x e - 1))) := by rw [pm_mv he (by omega), pm_ar_up]
  have e3 : upd (pm_ar x) e (vp_nar .byte 0) = pm_ar (pm_up x e 0) := by rw [pm_b0, pm_ar_up]
  refine ⟨hi, br_f (nI_ne0 (by omega) (by omega)) ⟨hi, br_t e0 ⟨hi, nm_r e1 ⟨hci, nm_r e2 (nm_r (nI_1 c) ⟨hi, nm_r e3 ?_⟩)⟩⟩⟩⟩
  refine pk_le 8 (x e - 1) (fun z => ?_) (fun z => ?_)
  · rw [if_pos (by omega)] at h
    exact nm_r (pk_m1 R) (pm_X224b he h)
  · rw [if_neg (by omega)] at h
    have hj : vp_in (nI (x e - 1)) 8 := vp_in_nI (by omega) (by decide)
    rw [nI_clamp (show x e - 1 < 2 ^ 31 by omega)]
    have e4 : upd (pm_ar w) (x e - 1) (vp_nar .byte ((pm_ar w (x e - 1) - 1).toInt8.toInt32)) = pm_ar (pm_up w (x e - 1) (w (x e - 1) - 1)) := by
      show upd (pm_ar w) (x e - 1) (vp_nar .byte ((nI (w (x e - 1)) - 1).toInt8.toInt32)) = _
      rw [pm_bd (hd (by omega)), pm_ar_up]
    exact ⟨hj, hj, nm_r e4 (nm_r (pk_m1 R) (pm_X224b he h))⟩
/-- the marking loop's src behind i rounds -/
def pm_F (s : Nat → Nat) (e i : Nat) : Nat → Nat := fun j => if j < i then pm_xs s (e + 1) j else s j
theorem pm_F0 (s : Nat → Nat) (e : Nat) : pm_F s e 0 = s := funext fun _ => if_neg (by omega)
theorem pm_F8 {s : Nat → Nat} {e : Nat} (h : ∀ j, 8 ≤ j → s j = 0) : pm_F s e 8 = pm_xs s (e + 1) := by
  funext j
  by_cases z : j < 8
  · exact if_pos z
  · refine (if_neg z).trans ?_
    rw [h j (by omega), pm_xs_0 (h j (by omega))]
theorem pm_F_at (s : Nat → Nat) (e i : Nat) : pm_F s e i i = s i := if_neg (by omega)
theorem pm_F_y {s : Nat → Nat} {e i : Nat} (h : s i = e + 1) : pm_up (pm_F s e i) i 9 = pm_F s e (i + 1) := by
  funext j
  by_cases z : j = i
  · subst z
    rw [pm_us]
    refine Eq.trans ?_ (if_pos (by omega)).symm
    rw [pm_xs_9 (by omega) h]
  · rw [pm_un 9 z]
    by_cases y : j < i
    · exact (if_pos y).trans (if_pos (by omega)).symm
    · exact (if_neg y).trans (if_neg (by omega)).symm
theorem pm_F_n {s : Nat → Nat} {e i : Nat} (h : s i ≠ e + 1) : pm_F s e i = pm_F s e (i + 1) := by
  funext j
  by_cases z : j = i
  · subst z
    refine (if_neg (by omega)).trans (Eq.trans ?_ (if_pos (by omega)).symm)
    by_cases q : s j = 0
    · rw [pm_xs_0 q, q]
    · rw [pm_xs_n q h]
  · by_cases y : j < i
    · exact (if_pos y).trans (if_pos (by omega)).symm
    · exact (if_neg y).trans (if_neg (by omega)).symm
theorem pm_X90 {X1 X3 X4 C : Int32} {s w : Nat → Nat} {L : Nat → Int32} {e : Nat} (he : e < 8) (hs : ∀ j, s j ≤ 8) (hs8 : ∀ j, 8 ≤ j → s j = 0) (h : wX_schedule_132 post J X1 (nI e) X3 X4 C (pm_ar (pm_xs s (e + 1))) (pm_ar (pm_up w e 0)) L) : ∀ d i, d + i = 8 → wX_schedule_90 post J X1 (nI e) X3 X4 C (d + 1) (nI i) (pm_ar (pm_F s e i)) (pm_ar w) L := by
  intro d
  have hi : vp_in (nI e) 8 := vp_in_nI he (by decide)
  induction d with
  | zero =>
    intro i hd
    have h8 : i = 8 := by omega
    subst h8
    rw [pm_F8 hs8]
    have e1 : upd (pm_ar w) (nI e).toNatClampNeg (vp_nar .byte 0) = pm_ar (pm_up w e 0) := by rw [nI_clamp (show e < 2 ^ 31 by omega), pm_b0, pm_ar_up]
    exact br_t (nI_le (a := 8) (b := 8) (by decide) (by decide)) (And.intro hi (nm_r e1 h))
  | succ d ih =>
    intro i hd
    have hn := ih (i + 1) (by omega)
    have hj : vp_in (nI i) 8 := vp_in_nI (by omega) (by decide)
    have ci : (nI i).toNatClampNeg = i := nI_clamp (by omega)
    have hl : ¬ (8 : Int32) ≤ nI i := nI_ge (a := i) (b := 8) (by omega) (by decide)
    have hsi := hs i
    by_cases z : s i = e + 1
    · have e0 : pm_ar (pm_F s e i) (nI i).toNatClampNeg = nI e + 1 := by
        rw [ci, nI_1]
        show nI (pm_F s e i i) = _
        rw [pm_F_at, z]
      have e1 : upd (pm_ar (pm_F s e i)) (nI i).toNatClampNeg (vp_nar .byte 9) = pm_ar (pm_F s e (i + 1)) := by rw [ci, pm_b9, pm_ar_up, pm_F_y z]
      exact br_f hl (And.intro hj (br_t e0 (And.intro hj (nm_r e1 (nm_r (nI_1 i) hn)))))
    · have e0 : ¬ pm_ar (pm_F s e i) (nI i).toNatClampNeg = nI e + 1 := by
        rw [ci, nI_1]
        show ¬ nI (pm_F s e i i) = _
        rw [pm_F_at, nI_eq (by omega) (by omega)]
        exact z
      rw [pm_F_n z] at e0 ⊢
      exact br_f hl (And.intro hj (br_f e0 (nm_r (nI_1 i) hn)))
theorem pm_X37_go {R e g n : Nat} {C : Int32} {x : Nat → Nat} {B L : Nat → Int32} (hR0 : 0 < R) (hR : R ≤ 8) (he : e < 8) (hx : x e ≤ 9) (hg : g ≤ 128) (h0 : x e = 0 ∨ g < 8) (h : wX_schedule_132 post (wX_schedule_37 post n) (nI R) (nI e) (nI g) 0 C (pm_ar x) B L) : wX_schedule_37 post (n + 1) (nI R) (nI e) (nI g) C (pm_ar x) B L := by
  have hi : vp_in (nI e) 8 := vp_in_nI he (by decide)
  refine br_f (nI_nle hR0 (by omega)) (And.intro hi ?_)
  rw [nI_clamp (show e < 2 ^ 31 by omega)]
  refine pk_eq (x e) 0 (fun _ => h) (fun z => ?_)
  have k : g < 8 := by omega
  exact br_t (nI_lt (b := 8) k (by decide)) h
theorem pm_X37_sv {R e g c n : Nat} {s w l : Nat → Nat} (hR0 : 0 < R) (hR : R ≤ 8) (he : e < 8) (hs : ∀ j, s j ≤ 8) (hs8 : ∀ j, 8 ≤ j → s j = 0) (hs0 : s e ≠ 0) (hg8 : 8 ≤ g) (hg : g ≤ 128) (hc : c < 16) (h : wX_schedule_132 post (wX_schedule_37 post n) (nI R) (nI e) (nI g) 1 (nI (c + 1)) (pm_ar (pm_xs s (e + 1))) (pm_ar (pm_up w e 0)) (pm_ar (pm_up l c (2048 + e)))) : wX_schedule_37 post (n + 1) (nI R) (nI e) (nI g) (nI c) (pm_ar s) (pm_ar w) (pm_ar l) := by
  have hi : vp_in (nI e) 8 := vp_in_nI he (by decide)
  have hci : vp_in (nI c) 16 := vp_in_nI hc (by decide)
  have hse := hs e
  refine br_f (nI_nle hR0 (by omega)) (And.intro hi ?_)
  rw [nI_clamp (show e < 2 ^ 31 by omega), nI_clamp (show c < 2 ^ 31 by omega)]
  have e2 : upd (pm_ar l) c (vp_nar .char (((2048 ||| nI e).toUInt32 % 65536).toInt32)) = pm_ar (pm_up l c (2048 + e)) := by rw [pm_sv he, pm_ar_up]
  have k := pm_X90 he hs hs8 h 8 0 rfl
  rw [pm_F0] at k
  exact br_f (nI_ne0 (by omega) (by omega)) (br_f (nI_nlt (b := 8) hg8 (by omega)) ⟨hci, nm_r e2 (nm_r (nI_1 c) ⟨9, k⟩)⟩)
end
section
variable {post : Int32 → SY → Prop} {J : Int32 → Int32 → Int32 → Int32 → (Nat → Int32) → (Nat → Int32) → (Nat → Int32) → Prop}
theorem pm_Y_skip {g t e : Nat} {X2 C : Int32} {s w : Nat → Nat} {L : Nat → Int32} (he : e < 8) (hs : s e ≤ 8) (h0 : s e = 0 ∨ (w e ≠ 0 ∧ w e ≤ 8)) (h : J (nI (g + 1)) X2 (nI (t + 1)) C (pm_ar s) (pm_ar w) L) : wY_schedule_83 post J (nI g) X2 (nI t) (nI e) (nI (s e) - 1) C (pm_ar s) (pm_ar w) L := by
  unfold wY_schedule_83
  rw [nI_clamp (show e < 2 ^ 31 by omega)]
  have hi : vp_in (nI e) 8 := vp_in_nI he (by decide)
  by_cases z : s e = 0
  · have k : nI (s e) - 1 < 0 := by rw [z]; decide
    exact br_t k (nm_r (nI_1 g) (nm_r (nI_1 t) h))
  · have k : ¬ nI (s e) - 1 < 0 := by rw [pm_s1 z]; exact nI_pos (by omega)
    have k2 : w e ≠ 0 ∧ w e ≤ 8 := by omega
    exact br_f k ⟨hi, br_f (nI_ne0 (by omega) (by omega)) (nm_r (nI_1 g) (nm_r (nI_1 t) h))⟩
theorem pm_Y134 {t e c k : Nat} {X2 : Int32} {A B : Nat → Int32} {l : Nat → Nat} (he : e < 8) (hk : k < 9) (hc : c < 16) (h : J 0 X2 (nI (t + 1)) (nI (c + 1)) A B (pm_ar (pm_up l c (e * 256 + k)))) : wY_schedule_134 post J X2 (nI t) (nI e) (nI k) (nI c) A B (pm_ar l) := by
  unfold wY_schedule_134
  rw [pm_a15 hc, nI_clamp (show c < 2 ^ 31 by omega)]
  have e2 : upd (pm_ar l) c (vp_nar .char ((((nI e <<< ((8 : Int32) &&& 31)) ||| nI k).toUInt32 % 65536).toInt32)) = pm_ar (pm_up l c (e * 256 + k)) := by rw [pm_mv he hk, pm_ar_up]
  exact nm_r (nI_1 c) ⟨vp_in_nI hc (by decide), nm_r e2 (nm_r (nI_1 t) h)⟩
theorem pm_Y_emit {g t e c sv : Nat} {s w l : Nat → Nat} (he : e < 8) (hs0 : s e ≠ 0) (hs : s e ≤ 8) (hsv : sv ≤ 8) (hw : w e = 0) (hc : c < 16) (hd : s e ≠ sv → 1 ≤ w (s e - 1) ∧ w (s e - 1) ≤ 8) (h : J 0 (nI sv - 1) (nI (t + 1)) (nI (c + 1)) (pm_ar (pm_up s e 0)) (pm_ar (pm_dw sv s w e)) (pm_ar (pm_up l c (e * 256 + (pm_xs s sv e - 1))))) : wY_schedule_83 post J (nI g) (nI sv - 1) (nI t) (nI e) (nI (s e) - 1) (nI c) (pm_ar s) (pm_ar w) (pm_ar l) := by
  have k1 : nI (s e) - 1 = nI (s e - 1) := pm_s1 hs0
  have hi : vp_in (nI e) 8 := vp_in_nI he (by decide)
  have k0 : ¬ nI (s e) - 1 < 0 := by rw [k1]; exact nI_pos (by omega)
  have e0 : pm_ar w e = 0 := (congrArg nI hw).trans nI_0
  have e3 : upd (pm_ar s) e (vp_nar .byte 0) = pm_ar (pm_up s e 0) := by rw [pm_b0, pm_ar_up]
  unfold wY_schedule_83
  rw [nI_clamp (show e < 2 ^ 31 by omega)]
  refine br_f k0 ⟨hi, br_t e0 ⟨hi, nm_r e3 ?_⟩⟩
  by_cases z : s e = sv
  · have k2 : pm_dw sv s w e = w := if_pos z
    rw [k2, pm_xs_9 hs0 z] at h
    exact br_t (by rw [z]) (pm_Y134 (k := 8) he (by decide) hc h)
  · have k2 : pm_dw sv s w e = pm_up w (s e - 1) (w (s e - 1) - 1) := if_neg z
    rw [k2, pm_xs_n hs0 z] at h
    refine br_f (fun q => z (pm_ss (s e) (by omega) sv (by omega) q)) ?_
    rw [k1, pm_a7 (show s e - 1 < 8 by omega), nI_clamp (show s e - 1 < 2 ^ 31 by omega)]
    have hj : vp_in (nI (s e - 1)) 8 := vp_in_nI (by omega) (by decide)
    have e4 : upd (pm_ar w) (s e - 1) (vp_nar .byte ((pm_ar w (s e - 1) - 1).toInt8.toInt32)) = pm_ar (pm_up w (s e - 1) (w (s e - 1) - 1)) := by
      show upd (pm_ar w) (s e - 1) (vp_nar .byte ((nI (w (s e - 1)) - 1).toInt8.toInt32)) = _
      rw [pm_bd (hd z), pm_ar_up]
    exact ⟨hj, hj, nm_r e4 (pm_Y134 he (by omega) hc h)⟩
theorem pm_Y11_go {t g n : Nat} {X2 C : Int32} {s : Nat → Nat} {B L : Nat → Int32} (ht : t < 128) (hs : s (t % 8) ≤ 8) (h0 : s (t % 8) = 0 ∨ g < 8) (h : wY_schedule_83 post (wY_schedule_11 post n) (nI g) X2 (nI t) (nI (t % 8)) (nI (s (t % 8)) - 1) C (pm_ar s) B L) : wY_schedule_11 post (n + 1) (nI g) X2 (nI t) C (pm_ar s) B L := by
  have he : t % 8 < 8 := Nat.mod_lt _ (by decide)
  have e1 : nI t &&& 7 = nI (t % 8) := pk_andN (by omega) 3 (by decide)
  refine br_f (nI_ge (a := t) (b := 128) ht (by decide)) (nm_r e1 (And.intro (vp_in_nI he (by decide)) ?_))
  rw [nI_clamp (show t % 8 < 2 ^ 31 by omega)]
  refine nm_r (e' := nI (s (t % 8)) - 1) rfl ?_
  by_cases z : s (t % 8) = 0
  · exact br_t (by rw [z]; decide) h
  · have k : g < 8 := by omega
    exact br_f (by rw [pm_s1 z]; exact nI_pos (by omega)) (br_t (nI_lt (b := 8) k (by decide)) h)
theorem pm_Y11_sv {t g n c : Nat} {X2 : Int32} {s w l : Nat → Nat} (ht : t < 128) (hs : s (t % 8) ≤ 8) (hs0 : s (t % 8) ≠ 0) (hg8 : 8 ≤ g) (hg : g ≤ 128) (hc : c < 16) (h : wY_schedule_83 post (wY_schedule_11 post n) (nI g) (nI (t % 8 + 1) - 1) (nI t) (nI (t % 8)) (nI (s (t % 8)) - 1) (nI (c + 1)) (pm_ar s) (pm_ar (pm_up w (t % 8) 0)) (pm_ar (pm_up l c (2048 + t % 8)))) : wY_schedule_11 post (n + 1) (nI g) X2 (nI t) (nI c) (pm_ar s) (pm_ar w) (pm_ar l) := by
  have he : t % 8 < 8 := Nat.mod_lt _ (by decide)
  have e1 : nI t &&& 7 = nI (t % 8) := pk_andN (by omega) 3 (by decide)
  have hi : vp_in (nI (t % 8)) 8 := vp_in_nI he (by decide)
  rw [nI_pred] at h
  refine br_f (nI_ge (a := t) (b := 128) ht (by decide)) (nm_r e1 (And.intro hi ?_))
  rw [nI_clamp (show t % 8 < 2 ^ 31 by omega), pm_a15 hc, nI_clamp (show c < 2 ^ 31 by omega)]
  refine nm_r (e' := nI (s (t % 8)) - 1) rfl ?_
  have e2 : upd (pm_ar l) c (vp_nar .char (((2048 ||| nI (t % 8)).toUInt32 % 65536).toInt32)) = pm_ar (pm_up l c (2048 + t % 8)) := by rw [pm_sv he, pm_ar_up]
  have e3 : upd (pm_ar w) (t % 8) (vp_nar .byte 0) = pm_ar (pm_up w (t % 8) 0) := by rw [pm_b0, pm_ar_up]
  exact br_f (by rw [pm_s1 hs0]; exact nI_pos (by omega)) (br_f (nI_nlt (b := 8) hg8 (by omega)) (nm_r (nI_1 c) ⟨vp_in_nI hc (by decide), nm_r e2 ⟨hi, nm_r e3 h⟩⟩))
theorem pm_Y_rest {c : Nat} {X2 : Int32} {w : Nat → Nat} {L : Nat → Int32} (hp : post (nI c) (nI c, pm_ar (fun _ => 0), pm_ar w, L)) : ∀ d t g n, d + t = 128 → d < n → wY_schedule_11 post n (nI g) X2 (nI t) (nI c) (pm_ar (fun _ => 0)) (pm_ar w) L := by
  intro d
  induction d with
  | zero =>
    intro t g n ht hn
    obtain ⟨m, rfl⟩ : ∃ m, n = m + 1 := ⟨n - 1, by omega⟩
    exact br_t (nI_le (a := 128) (b := t) (by omega) (by omega)) hp
  | succ d ih =>
    intro t g n ht hn
    obtain ⟨m, rfl⟩ : ∃ m, n = m + 1 := ⟨n - 1, by omega⟩
    exact pm_Y11_go (by omega) (Nat.zero_le _) (Or.inl rfl) (pm_Y_skip (s := fun _ => 0) (Nat.mod_lt _ (by decide)) (Nat.zero_le _) (Or.inl rfl) (ih (t + 1) (g + 1) m (by omega) (by omega)))
end
end
section
/-! the two schedules in lockstep: one outcome for both -/
def pm_At (d t g sv : Nat) (s w l : Nat → Nat) (c : Nat) : Prop := ∃ (c' : Nat) (s' w' l' : Nat → Nat), pm_OK c' s' w' l' ∧ (∀ (post : Int32 → SX → Prop) (n : Nat), d < n → post (nI c') (nI c', pm_ar s', pm_ar w', pm_ar l') → wX_schedule_37 post n (nI (pm_rm s)) (nI (t % 8)) (nI g) (nI c) (pm_ar (pm_xs s sv)) (pm_ar w) (pm_ar l)) ∧ (∀ (post : Int32 → SY → Prop) (n : Nat), d < n → post (nI c') (nI c', pm_ar s', pm_ar w', pm_ar l') → wY_schedule_11 post n (nI g) (nI sv - 1) (nI t) (nI c) (pm_ar s) (pm_ar w) (pm_ar l))
theorem pm_wle {sv : Nat} {s w : Nat → Nat} {v : Nat} (h : pm_P sv s w) (hv : v < 8) : w v ≤ 8 := by
  rw [h.2.2.2 v hv]
  exact pm_ct_8 _ _
theorem pm_hd {sv : Nat} {s w : Nat → Nat} {e : Nat} (h : pm_P sv s w) (he : e < 8) (hs : s e ≠ 0) (h8 : pm_xs s sv e ≤ 8) : 1 ≤ w (pm_xs s sv e - 1) ∧ w (pm_xs s sv e - 1) ≤ 8 := by
  have h0 : pm_xs s sv e ≠ 0 := fun q => hs (pm_xs_z.mp q)
  refine ⟨?_, pm_wle h (by omega)⟩
  rw [h.2.2.2 (pm_xs s sv e - 1) (by omega)]
  exact pm_ct_pos he (by omega)
theorem pm_hdY {sv : Nat} {s w : Nat → Nat} {e : Nat} (h : pm_P sv s w) (he : e < 8) (hs : s e ≠ 0) (q : s e ≠ sv) : 1 ≤ w (s e - 1) ∧ w (s e - 1) ≤ 8 := by
  have k := pm_hd h he hs
  rw [pm_xs_n hs q] at k
  exact k (h.1 e).1
theorem pm_hdw {sv : Nat} {s w : Nat → Nat} {e : Nat} (h : pm_P sv s w) (hs : s e ≠ 0) : pm_dw sv s w e = if pm_xs s sv e = 9 then w else pm_up w (pm_xs s sv e - 1) (w (pm_xs s sv e - 1) - 1) := by
  have h8 := (h.1 e).1
  by_cases q : s e = sv
  · rw [pm_xs_9 hs q, if_pos rfl]
    exact if_pos q
  · rw [pm_xs_n hs q, if_neg (by omega)]
    exact if_neg q
theorem pm_At_end {d t g sv : Nat} {s w l : Nat → Nat} {c : Nat} (I : pm_I t g sv s w l c) (hr : pm_rm s = 0) (hd : d + t = 128) : pm_At d t g sv s w l c := by
  obtain ⟨z, x, ok⟩ := pm_I_end I hr
  refine ⟨c, s, w, l, ok, fun post n hn hp => ?_, fun post n hn hp => ?_⟩
  · obtain ⟨m, rfl⟩ : ∃ m, n = m + 1 := ⟨n - 1, by omega⟩
    rw [x, hr]
    exact br_t (nI_le (a := 0) (b := 0) (by decide) (by decide)) hp
  · subst z
    exact pm_Y_rest hp d t g n hd hn
theorem pm_At_idle {d t g sv : Nat} {s w l : Nat → Nat} {c : Nat} (I : pm_I t g sv s w l c) (hr : 0 < pm_rm s) (hi : s (t % 8) = 0 ∨ (w (t % 8) ≠ 0 ∧ g < 8)) (A : pm_At d (t + 1) (g + 1) sv s w l c) : pm_At (d + 1) t g sv s w l c := by
  have he : t % 8 < 8 := Nat.mod_lt _ (by decide)
  have hg := pm_I_g I hr
  have hg2 : g ≤ 128 := by omega
  have hP := I.1
  have hw := pm_wle hP he
  have hs := (hP.1 (t % 8)).1
  have hx := pm_xs_le hP.1 sv (t % 8)
  have hm : (t % 8 + 1) % 8 = (t + 1) % 8 := by omega
  have hr8 := pm_rm_8 s
  obtain ⟨c', s', w', l', ok, hX, hY⟩ := A
  refine ⟨c', s', w', l', ok, fun post n hn hp => ?_, fun post n hn hp => ?_⟩
  · obtain ⟨m, rfl⟩ : ∃ m, n = m + 1 := ⟨n - 1, by omega⟩
    have k := hX post m (by omega) hp
    rw [← hm] at k
    exact pm_X37_go hr hr8 he hx hg2 (hi.imp pm_xs_z.mpr And.right) (pm_X_skip he hx (hi.imp pm_xs_z.mpr (fun q => ⟨q.1, hw⟩)) k)
  · obtain ⟨m, rfl⟩ : ∃ m, n = m + 1 := ⟨n - 1, by omega⟩
    exact pm_Y11_go hg.2 hs (hi.imp id And.right) (pm_Y_skip he hs (hi.imp id (fun q => ⟨q.1, hw⟩)) (hY post m (by omega) hp))
theorem pm_At_emit {d t g sv : Nat} {s w l : Nat → Nat} {c : Nat} (I : pm_I t g sv s w l c) (hs0 : s (t % 8) ≠ 0) (hw0 : w (t % 8) = 0) (hg8 : g < 8) (A : pm_At d (t + 1) 0 sv (pm_up s (t % 8) 0) (pm_dw sv s w (t % 8)) (pm_up l c (t % 8 * 256 + (pm_xs s sv (t % 8) - 1))) (c + 1)) : pm_At (d + 1) t g sv s w l c := by
  have he : t % 8 < 8 := Nat.mod_lt _ (by decide)
  have hr := pm_rm_1 he hs0
  have hg := pm_I_g I hr
  have hg2 : g ≤ 128 := by omega
  have hP := I.1
  have hs := (hP.1 (t % 8)).1
  have hx := pm_xs_le hP.1 sv (t % 8)
  have hx0 : pm_xs s sv (t % 8) ≠ 0 := fun q => hs0 (pm_xs_z.mp q)
  have hm : (t % 8 + 1) % 8 = (t + 1) % 8 := by omega
  have hr8 := pm_rm_8 s
  have hR := pm_rm_up he hs0
  have hc : c < 16 := by
    have := I.2.2.2.2.2.1
    omega
  obtain ⟨c', s', w', l', ok, hX, hY⟩ := A
  refine ⟨c', s', w', l', ok, fun post n hn hp => ?_, fun post n hn hp => ?_⟩
  · obtain ⟨m, rfl⟩ : ∃ m, n = m + 1 := ⟨n - 1, by omega⟩
    have k := hX post m (by omega) hp
    rw [← hm, pm_xs_up, pm_hdw hP hs0] at k
    have k2 := pm_X_emit (post := post) (J := wX_schedule_37 post m) (g := g) (x4 := 0) he hx0 hx hw0 hc (pm_hd hP he hs0) k
    rw [hR] at k2
    exact pm_X37_go hr hr8 he hx hg2 (Or.inr hg8) k2
  · obtain ⟨m, rfl⟩ : ∃ m, n = m + 1 := ⟨n - 1, by omega⟩
    exact pm_Y11_go hg.2 hs (Or.inr hg8) (pm_Y_emit he hs0 hs hP.2.2.1 hw0 hc (pm_hdY hP he hs0) (hY post m (by omega) hp))
theorem pm_At_save {d t g sv : Nat} {s w l : Nat → Nat} {c : Nat} (I : pm_I t g sv s w l c) (hs0 : s (t % 8) ≠ 0) (hg8 : 8 ≤ g) (A : pm_At d (t + 1) 0 (t % 8 + 1) (pm_up s (t % 8) 0) (pm_dw (t % 8 + 1) s (pm_up w (t % 8) 0) (t % 8)) (pm_up (pm_up l c (2048 + t % 8)) (c + 1) (t % 8 * 256 + (pm_xs s (t % 8 + 1) (t % 8) - 1))) (c + 2)) : pm_At (d + 1) t g sv s w l c := by
  have he : t % 8 < 8 := Nat.mod_lt _ (by decide)
  have hr := pm_rm_1 he hs0
  have hg := pm_I_g I hr
  have hg2 : g ≤ 128 := by omega
  obtain ⟨hP, hid⟩ := pm_P_save I.1 he (pm_I_b I hg8)
  have hs := (hP.1 (t % 8)).1
  have hx := pm_xs_le hP.1 (t % 8 + 1) (t % 8)
  have hx0 : pm_xs s (t % 8 + 1) (t % 8) ≠ 0 := fun q => hs0 (pm_xs_z.mp q)
  have hw0 : pm_up w (t % 8) 0 (t % 8) = 0 := pm_us _ _ _
  have hm : (t % 8 + 1) % 8 = (t + 1) % 8 := by omega
  have hr8 := pm_rm_8 s
  have hR := pm_rm_up he hs0
  have hc : c < 16 ∧ c + 1 < 16 := by
    have := I.2.2.2.2.2.1
    omega
  obtain ⟨c', s', w', l', ok, hX, hY⟩ := A
  refine ⟨c', s', w', l', ok, fun post n hn hp => ?_, fun post n hn hp => ?_⟩
  · obtain ⟨m, rfl⟩ : ∃ m, n = m + 1 := ⟨n - 1, by omega⟩
    have k := hX post m (by omega) hp
    rw [← hm, pm_xs_up, pm_hdw hP hs0] at k
    have k2 := pm_X_emit (post := post) (J := wX_schedule_37 post m) (g := g) (x4 := 1) he hx0 hx hw0 hc.2 (pm_hd hP he hs0) k
    rw [hR] at k2
    rw [hid]
    exact pm_X37_sv hr hr8 he (fun j => (hP.1 j).1) hP.2.1 hs0 hg8 hg2 hc.1 k2
  · obtain ⟨m, rfl⟩ : ∃ m, n = m + 1 := ⟨n - 1, by omega⟩
    exact pm_Y11_sv hg.2 hs hs0 hg8 hg2 hc.1 (pm_Y_emit he hs0 hs hP.2.2.1 hw0 hc.2 (pm_hdY hP he hs0) (hY post m (by omega) hp))
theorem pm_main : ∀ (d t g sv : Nat) (s w l : Nat → Nat) (c : Nat), d + t = 128 → pm_I t g sv s w l c → pm_At d t g sv s w l c := by
  intro d
  induction d with
  | zero =>
    intro t g sv s w l c ht I
    rcases Nat.eq_zero_or_pos (pm_rm s) with z | z
    · exact pm_At_end I z ht
    · have := (pm_I_g I z).2
      omega
  | succ d ih =>
    intro t g sv s w l c ht I
    rcases Nat.eq_zero_or_pos (pm_rm s) with z | z
    · exact pm_At_end I z ht
    · have ht2 : d + (t + 1) = 128 := by omega
      have he : t % 8 < 8 := Nat.mod_lt _ (by decide)
      have hP := I.1.1
      by_cases s0 : s (t % 8) = 0
      · exact pm_At_idle I z (Or.inl s0) (ih _ _ _ _ _ _ _ ht2 (pm_I_idle I (Or.inl s0)))
      · by_cases g8 : g < 8
        · by_cases w0 : w (t % 8) = 0
          · have := pm_xs_le hP sv (t % 8)
            exact pm_At_emit I s0 w0 g8 (ih _ _ _ _ _ _ _ ht2 (pm_I_emit I s0 (by omega)))
          · exact pm_At_idle I z (Or.inr ⟨w0, g8⟩) (ih _ _ _ _ _ _ _ ht2 (pm_I_idle I (Or.inr ⟨w0, g8⟩)))
        · have := pm_xs_le hP (t % 8 + 1) (t % 8)
          exact pm_At_save I s0 (by omega) (ih _ _ _ _ _ _ _ ht2 (pm_I_save I (by omega) s0 (by omega) (by omega)))
theorem pm_X9 {post : Int32 → SX → Prop} {C : Int32} {s : Nat → Nat} {B L : Nat → Int32} (hs : ∀ e, s e ≤ 8) (h : wX_schedule_37 post 129 (nI (pm_rm s)) 0 0 C (pm_ar s) B L) : ∀ d i, d + i = 8 → wX_schedule_9 post C (pm_ar s) B L (d + 1) (nI (pm_sm (fun e => if s e = 0 then 0 else 1) i)) (nI i) := by
  intro d
  induction d with
  | zero =>
    intro i hi
    have h8 : i = 8 := by omega
    subst h8
    exact br_t (nI_le (a := 8) (b := 8) (by decide) (by decide)) ⟨129, h⟩
  | succ d ih =>
    intro i hi
    have hn := ih (i + 1) (by omega)
    have hl : ¬ (8 : Int32) ≤ nI i := nI_ge (a := i) (b := 8) (by omega) (by decide)
    have hj : vp_in (nI i) 8 := vp_in_nI (by omega) (by decide)
    have ci : (nI i).toNatClampNeg = i := nI_clamp (by omega)
    have hsi := hs i
    rw [pm_sm_s] at hn
    by_cases z : s i = 0
    · have e0 : pm_ar s (nI i).toNatClampNeg = 0 := by
        rw [ci]
        exact (congrArg nI z).trans nI_0
      rw [if_pos z] at hn
      exact br_f hl (And.intro hj (br_t e0 (nm_r (nI_1 i) hn)))
    · have e0 : ¬ pm_ar s (nI i).toNatClampNeg = 0 := by
        rw [ci]
        exact nI_ne0 (by omega) (by omega)
      rw [if_neg z] at hn
      exact br_f hl (And.intro hj (br_f e0 (nm_r (nI_1 _) (nm_r (nI_1 i) hn))))
end
section
/-! the relation and what is owed -/
/-- both states are one tuple of pictures, with what pm_OK says of it -/
def i_Rel (_ : Nat) (u : SX) (v : SY) : Prop := ∃ (c : Nat) (s w l : Nat → Nat), pm_OK c s w l ∧ u = (nI c, pm_ar s, pm_ar w, pm_ar l) ∧ v = (nI c, pm_ar s, pm_ar w, pm_ar l)
theorem i_up {k : Nat} {u : SX} {v : SY} (h : i_Rel k u v) : i_Rel (k + 3) u v := h
theorem i_vc0 : wpX_init (fun u => wpY_init (fun v => i_Rel 0 u v)) := by
  have ok : pm_OK 0 (fun _ => 0) (fun _ => 0) (fun _ => 0) := ⟨by omega, fun e => ⟨Nat.zero_le _, fun q => Nat.succ_ne_zero e q.symm⟩, fun _ _ => rfl, fun v _ => (pm_ct_no (fun _ _ q => Nat.succ_ne_zero v q.symm)).symm, fun _ => Nat.zero_lt_succ 4095⟩
  exact ⟨0, fun _ => 0, fun _ => 0, fun _ => 0, ok, rfl, rfl⟩
theorem pm_OK_want {c : Nat} {s w l : Nat → Nat} {i j : Nat} (ok : pm_OK c s w l) (hi : i < 8) (hj : j < 8) (hne : i ≠ j) (hs : s i = 0) : pm_OK c (pm_up s i (j + 1)) (pm_up w j (w j + 1)) l := by
  obtain ⟨h1, h2, h3, h4, h5⟩ := ok
  refine ⟨h1, fun e => ?_, fun e he => ?_, fun v hv => ?_, h5⟩
  · by_cases z : e = i
    · subst z; rw [pm_us]; omega
    · rw [pm_un _ z]; exact h2 e
  · rw [pm_un _ (by omega)]; exact h3 e he
  · have a := pm_ct_up (x := s) (k := i) (j + 1) (v + 1) hi
    rw [if_neg (by omega)] at a
    have b := h4 v hv
    by_cases z : v = j
    · subst z
      rw [if_pos rfl] at a
      rw [pm_us]
      omega
    · rw [if_neg (by omega)] at a
      rw [pm_un _ z]
      omega
theorem pm_want {c : Nat} {s w l : Nat → Nat} (ok : pm_OK c s w l) (p0 p1 : Int32) : ∃ (r : Int32) (c' : Nat) (s' w' l' : Nat → Nat), pm_OK c' s' w' l' ∧ (∀ post : Int32 → SX → Prop, post r (nI c', pm_ar s', pm_ar w', pm_ar l') → wpX_want post (nI c, pm_ar s, pm_ar w, pm_ar l) p0 p1) ∧ (∀ post : Int32 → SY → Prop, post r (nI c', pm_ar s', pm_ar w', pm_ar l') → wpY_want post (nI c, pm_ar s, pm_ar w, pm_ar l) p0 p1) := by
  by_cases h0 : p0 < 0
  · exact ⟨-1, c, s, w, l, ok, fun _ h => br_t h0 h, fun _ h => br_t h0 h⟩
  by_cases h7 : p0 ≤ 7
  rotate_left
  · exact ⟨-1, c, s, w, l, ok, fun _ h => br_f h0 (br_f h7 h), fun _ h => br_f h0 (br_f h7 h)⟩
  by_cases g0 : p1 < 0
  · exact ⟨-2, c, s, w, l, ok, fun _ h => br_f h0 (br_t h7 (br_t g0 h)), fun _ h => br_f h0 (br_t h7 (br_t g0 h))⟩
  by_cases g7 : p1 ≤ 7
  rotate_left
  · exact ⟨-2, c, s, w, l, ok, fun _ h => br_f h0 (br_t h7 (br_f g0 (br_f g7 h))), fun _ h => br_f h0 (br_t h7 (br_f g0 (br_f g7 h)))⟩
  by_cases hn : p0 = p1
  · exact ⟨-3, c, s, w, l, ok, fun _ h => br_f h0 (br_t h7 (br_f g0 (br_t g7 (br_t hn h)))), fun _ h => br_f h0 (br_t h7 (br_f g0 (br_t g7 (br_t hn h))))⟩
  obtain ⟨i, hi, rfl⟩ := nI_of2 (M := 7) (n := 7) (by decide) h0 h7
  obtain ⟨j, hj, rfl⟩ := nI_of2 (M := 7) (n := 7) (by decide) g0 g7
  have vi : vp_in (nI i) 8 := vp_in_nI (by omega) (by decide)
  have vj : vp_in (nI j) 8 := vp_in_nI (by omega) (by decide)
  have ci : (nI i).toNatClampNeg = i := nI_clamp (by omega)
  have cj : (nI j).toNatClampNeg = j := nI_clamp (by omega)
  have hsi := (ok.2.1 i).1
  have hwj : w j ≤ 8 := by
    rw [ok.2.2.2.1 j (by omega)]
    exact pm_ct_8 _ _
  by_cases z : s i = 0
  · have e0 : pm_ar s (nI i).toNatClampNeg = 0 := by
      rw [ci]
      exact (congrArg nI z).trans nI_0
    have e1 : upd (pm_ar s) (nI i).toNatClampNeg (vp_nar .byte ((nI j + 1).toInt8.toInt32)) = pm_ar (pm_up s i (j + 1)) := by rw [ci, pm_bi (by omega), pm_ar_up]
    have e2 : upd (pm_ar w) (nI j).toNatClampNeg (vp_nar .byte ((pm_ar w (nI j).toNatClampNeg + 1).toInt8.toInt32)) = pm_ar (pm_up w j (w j + 1)) := by
      rw [cj]
      show upd (pm_ar w) j (vp_nar .byte ((nI (w j) + 1).toInt8.toInt32)) = _
      rw [pm_bi hwj, pm_ar_up]
    have hne : i ≠ j := fun q => hn (congrArg nI q)
    exact ⟨0, c, pm_up s i (j + 1), pm_up w j (w j + 1), l, pm_OK_want ok (by omega) (by omega) hne z,
      fun _ h => br_f h0 (br_t h7 (br_f g0 (br_t g7 (br_f hn (And.intro vi (br_t e0 (And.intro vi (nm_r e1 (And.intro vj (And.intro vj (nm_r e2 h))))))))))),
      fun _ h => br_f h0 (br_t h7 (br_f g0 (br_t g7 (br_f hn (And.intro vi (br_t e0 (And.intro vi (nm_r e1 (And.intro vj (And.intro vj (nm_r e2 h)))))))))))⟩
  · have e0 : ¬ pm_ar s (nI i).toNatClampNeg = 0 := by
      rw [ci]
      exact nI_ne0 (by omega) (by omega)
    exact ⟨-4, c, s, w, l, ok, fun _ h => br_f h0 (br_t h7 (br_f g0 (br_t g7 (br_f hn (And.intro vi (br_f e0 h)))))), fun _ h => br_f h0 (br_t h7 (br_f g0 (br_t g7 (br_f hn (And.intro vi (br_f e0 h))))))⟩
theorem i_vc_want {k : Nat} {u : SX} {v : SY} (I : i_Rel k u v) (hk : k + 3 ≤ 1536) (v1 : Int32) (v2 : Int32) : wpX_want (fun r u' => wpY_want (fun r' v' => r' = r ∧ i_Rel (k + 3) u' v') v v1 v2) u v1 v2 := by
  obtain ⟨c, s, w, l, ok, rfl, rfl⟩ := I
  obtain ⟨r, c', s', w', l', ok', hX, hY⟩ := pm_want ok v1 v2
  exact hX _ (hY _ ⟨rfl, c', s', w', l', ok', rfl, rfl⟩)
theorem i_vc_schedule {k : Nat} {u : SX} {v : SY} (I : i_Rel k u v) (hk : k + 3 ≤ 1536) : wpX_schedule (fun r u' => wpY_schedule (fun r' v' => r' = r ∧ i_Rel (k + 3) u' v') v) u := by
  obtain ⟨c, s, w, l, ok, rfl, rfl⟩ := I
  obtain ⟨c', s', w', l', ok', hX, hY⟩ := pm_main 128 0 0 0 s w l 0 rfl (pm_I_start ok)
  rw [pm_xs_s0] at hX
  have m1 : nI 0 - 1 = -1 := by decide
  rw [m1] at hY
  have hy : wpY_schedule (fun r' v' => r' = nI c' ∧ i_Rel (k + 3) (nI c', pm_ar s', pm_ar w', pm_ar l') v') (nI c, pm_ar s, pm_ar w, pm_ar l) := ⟨129, hY _ 129 (by decide) ⟨rfl, c', s', w', l', ok', rfl, rfl⟩⟩
  have hx := hX (fun r u' => wpY_schedule (fun r' v' => r' = r ∧ i_Rel (k + 3) u' v') (nI c, pm_ar s, pm_ar w, pm_ar l)) 129 (by decide) hy
  exact ⟨9, pm_X9 (fun e => (ok.2.1 e).1) hx 8 0 rfl⟩
theorem i_vc_move {k : Nat} {u : SX} {v : SY} (I : i_Rel k u v) (hk : k + 3 ≤ 1536) (v1 : Int32) : wpX_move (fun r => wpY_move (fun r' => r' = r ∧ i_Rel (k + 3) u v) v v1) u v1 := by
  have I2 : i_Rel (k + 3) u v := I
  obtain ⟨c, s, w, l, ok, rfl, rfl⟩ := I
  have hc := ok.1
  by_cases h0 : v1 < 0
  · exact br_t h0 (br_t h0 ⟨rfl, I2⟩)
  · obtain ⟨j, hj, rfl⟩ := nI_of h0
    by_cases z : j < c
    · have a : nI j < nI c := nI_lt z (by omega)
      have vj : vp_in (nI j) 16 := vp_in_nI (by omega) (by decide)
      have e : nI j &&& 15 = nI j := pm_a15 (by omega)
      have y : vp_in (nI j &&& 15) 16 ∧ (pm_ar l (nI j &&& 15).toNatClampNeg = pm_ar l (nI j).toNatClampNeg ∧ i_Rel (k + 3) (nI c, pm_ar s, pm_ar w, pm_ar l) (nI c, pm_ar s, pm_ar w, pm_ar l)) := by
        rw [e]
        exact ⟨vj, rfl, I2⟩
      exact br_f h0 (br_t a (And.intro vj (br_f h0 (br_t a y))))
    · have a : ¬ nI j < nI c := nI_nlt (by omega) hj
      exact br_f h0 (br_f a (br_f h0 (br_f a ⟨rfl, I2⟩)))
theorem pm_4 (a : Nat) : 4 * nI a = nI (a * 4) := by
  rw [Nat.mul_comm a 4]
  exact pk_mul 4 a
theorem pm_run {c : Nat} {A B : Nat → Int32} {l : Nat → Nat} (hc : c ≤ 16) (hl : ∀ i, l i < 4096) : ∀ (d i : Nat) (x : Int64), d + i = c → ∃ r : Int32, (∀ post : Int32 → Prop, post r → wX_run_10 post (nI c) A B (pm_ar l) (d + 1) x (nI i)) ∧ (∀ post : Int32 → Prop, post r → wY_run_10 post (nI c) A B (pm_ar l) (d + 1) x (nI i)) := by
  intro d
  induction d with
  | zero =>
    intro i x hi
    have a : nI c ≤ nI i := nI_le (by omega) (by omega)
    exact ⟨x.toInt32, fun _ h => br_t a h, fun _ h => br_t a h⟩
  | succ d ih =>
    intro i x hi
    have a : ¬ nI c ≤ nI i := nI_ge (by omega) (by omega)
    have vi : vp_in (nI i) 16 := vp_in_nI (by omega) (by decide)
    have e15 : nI i &&& 15 = nI i := pm_a15 (by omega)
    have ci : (nI i).toNatClampNeg = i := nI_clamp (by omega)
    have hm := hl i
    have e5 : pm_ar l (nI i).toNatClampNeg = nI (l i) := by rw [ci]; rfl
    generalize l i = m at hm e5
    have d0 : ((nI m).toUInt32 >>> ((8 : Int32).toUInt32 &&& Int32.toUInt32 31)).toInt32 = nI (m / 256) := pk_ushrN (by omega) 8 8 (by decide)
    have d1 : ((nI m).toUInt32 >>> ((8 : Int32).toUInt32 &&& Int32.toUInt32 31)).toInt32 &&& 15 = nI (m / 256) := by rw [d0, pm_a15 (by omega)]
    have d2 : nI m &&& 15 = nI (m % 16) := pk_andN (by omega) 4 (by decide)
    have s1 : nI (m / 256) <<< ((2 : Int32) &&& 31) = nI (m / 256 * 4) := pk_shlN _ 2 (by decide) (by omega)
    have s2 : nI (m % 16) <<< ((2 : Int32) &&& 31) = nI (m % 16 * 4) := pk_shlN _ 2 (by decide) (by omega)
    obtain ⟨r, hX, hY⟩ := ih (i + 1) ((x &&& (((15 : Int64) <<< ((nI (m / 256 * 4)).toInt64 &&& 63)) ^^^ (-1))) ||| ((((x.toUInt64 >>> ((nI (m % 16 * 4)).toInt64.toUInt64 &&& Int64.toUInt64 63)).toInt64) &&& 15) <<< ((nI (m / 256 * 4)).toInt64 &&& 63))) (by omega)
    refine ⟨r, fun post h => ?_, fun post h => ?_⟩
    · refine br_f a (And.intro vi (nm_r e5 (nm_r d1 (nm_r d2 ?_))))
      rw [pm_4, pm_4]
      exact nm_e (nm_e (nm_r (nI_1 i) (hX post h)))
    · refine br_f a ?_
      rw [e15]
      refine And.intro vi (nm_r e5 ?_)
      rw [d0, d2, s1, s2]
      exact nm_e (nm_e (nm_e (nm_r (nI_1 i) (hY post h))))
theorem i_vc_run {k : Nat} {u : SX} {v : SY} (I : i_Rel k u v) (hk : k + 3 ≤ 1536) (v1 : Int32) : wpX_run (fun r => wpY_run (fun r' => r' = r ∧ i_Rel (k + 3) u v) v v1) u v1 := by
  have I2 : i_Rel (k + 3) u v := I
  obtain ⟨c, s, w, l, ok, rfl, rfl⟩ := I
  obtain ⟨r, hX, hY⟩ := pm_run (A := pm_ar s) (B := pm_ar w) ok.1 ok.2.2.2.2 c 0 (v1.toInt64 &&& 4294967295) rfl
  exact nm_e ⟨c + 1, hX _ (nm_e ⟨c + 1, hY _ ⟨rfl, I2⟩⟩)⟩
end
