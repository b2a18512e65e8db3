section
/-! rows out of kit/rows (starting texts) -/
theorem pk_us {f : Nat → Int32} {k : Nat} {x : Int32} : upd f k x k = x := if_pos rfl
theorem pk_un {f : Nat → Int32} {k j : Nat} {x : Int32} (h : j ≠ k) : upd f k x j = f j := if_neg h
theorem pk_sub {a b : Nat} (h : b ≤ a) : nI a - nI b = nI (a - b) := by
  obtain ⟨c, rfl⟩ : ∃ c, a = c + b := ⟨a - b, by omega⟩
  rw [← nI_add, Int32.add_sub_cancel, Nat.add_sub_cancel]
theorem pk_m1 (n : Nat) : nI (n + 1) + (-1) = nI n := by
  rw [← nI_1, Int32.add_assoc, show (1 : Int32) + (-1) = 0 from rfl, Int32.add_zero]
theorem pk_mul (a b : Nat) : nI a * nI b = nI (a * b) := (Int32.ofNat_mul a b).symm
theorem pk_ix (x : Int32) {n : Nat} (hn : n < 2 ^ 31) : x < 0 ∨ nI n ≤ x ∨ ∃ j : Nat, j < n ∧ x = nI j := by
  by_cases h : x < 0
  · exact Or.inl h
  · obtain ⟨j, hj, rfl⟩ := nI_of h
    by_cases h2 : j < n
    · exact Or.inr (Or.inr ⟨j, h2, rfl⟩)
    · exact Or.inr (Or.inl (nI_le (by omega) hj))
theorem pk_le {x y : Int32} {A B : Prop} (a b : Nat) (f : a ≤ b → A) (g : b < a → B) (hx : x = nI a := by rfl) (hy : y = nI b := by rfl) (ha : a < 2 ^ 31 := by omega) (hb : b < 2 ^ 31 := by omega) : (x ≤ y → A) ∧ (¬ x ≤ y → B) := by
  subst hx hy
  rw [nI_leI ha hb]
  exact ⟨f, fun z => g (by omega)⟩
theorem pk_lt {x y : Int32} {A B : Prop} (a b : Nat) (f : a < b → A) (g : b ≤ a → B) (hx : x = nI a := by rfl) (hy : y = nI b := by rfl) (ha : a < 2 ^ 31 := by omega) (hb : b < 2 ^ 31 := by omega) : (x < y → A) ∧ (¬ x < y → B) := by
  subst hx hy
  rw [nI_ltI ha hb]
  exact ⟨f, fun z => g (by omega)⟩
theorem pk_eq {x y : Int32} {A B : Prop} (a b : Nat) (f : a = b → A) (g : a ≠ b → B) (hx : x = nI a := by rfl) (hy : y = nI b := by rfl) (ha : a < 2 ^ 31 := by omega) (hb : b < 2 ^ 31 := by omega) : (x = y → A) ∧ (¬ x = y → B) := by
  subst hx hy
  rw [nI_eq ha hb]
  exact ⟨f, g⟩
theorem pk_in {x : Int32} (n N : Nat) (h : n < N) (hx : x = nI n := by rfl) (hN : N < 2 ^ 31 := by omega) : vp_in x N := by
  subst hx
  exact vp_in_nI h hN
theorem pk_cl {x : Int32} (n : Nat) (hx : x = nI n := by rfl) (h : n < 2 ^ 31 := by omega) : x.toNatClampNeg = n := by
  subst hx
  exact nI_clamp h
theorem pk_least (P : Nat → Prop) (h : ∃ k, P k) : ∃ k, P k ∧ ∀ j, j < k → ¬ P j := by
  obtain ⟨k, hk⟩ := h
  induction k using Nat.strongRecOn with
  | ind k ih =>
    by_cases e : ∃ j, j < k ∧ P j
    · obtain ⟨j, hj, pj⟩ := e
      exact ih j hj pj
    · exact ⟨k, hk, fun j hj pj => e ⟨j, hj, pj⟩⟩
def bt (x : Int32) (i : Nat) : Bool := x.toBitVec.getLsbD i
theorem b_ext {x y : Int32} (h : ∀ i, i < 32 → bt x i = bt y i) : x = y := Int32.toBitVec_inj.mp (BitVec.eq_of_getLsbD_eq (fun i hi => h i hi))
theorem b_or (x y : Int32) (i : Nat) : bt (x ||| y) i = (bt x i || bt y i) := by unfold bt; rw [Int32.toBitVec_or, BitVec.getLsbD_or]
theorem b_and (x y : Int32) (i : Nat) : bt (x &&& y) i = (bt x i && bt y i) := by unfold bt; rw [Int32.toBitVec_and, BitVec.getLsbD_and]
theorem b_xor (x y : Int32) (i : Nat) : bt (x ^^^ y) i = (bt x i ^^ bt y i) := by unfold bt; rw [Int32.toBitVec_xor, BitVec.getLsbD_xor]
theorem b_big {x : Int32} {i : Nat} (h : 32 ≤ i) : bt x i = false := BitVec.getLsbD_of_ge _ _ h
theorem b_m1 : ∀ i, i < 32 → bt (-1) i = true := by decide +kernel
theorem b_0 (i : Nat) : bt 0 i = false := BitVec.getLsbD_zero
theorem s_l : ∀ n, n < 32 → ((nI n &&& 31).toBitVec.smod 32).toNat = n := by decide +kernel
theorem s_u : ∀ n, n < 32 → (((nI n).toUInt32 &&& Int32.toUInt32 31).toBitVec % 32).toNat = n := by decide +kernel
theorem b_shl (n : Nat) (hn : n < 32) (x : Int32) {i : Nat} (hi : i < 32) : bt (x <<< (nI n &&& 31)) i = (decide (n ≤ i) && bt x (i - n)) := by
  unfold bt
  rw [Int32.toBitVec_shiftLeft]
  show (x.toBitVec <<< ((nI n &&& 31).toBitVec.smod 32).toNat).getLsbD i = _
  rw [s_l n hn, BitVec.getLsbD_shiftLeft]
  rcases Nat.lt_or_ge i n with h | h
  · simp [h, Nat.not_le.mpr h]
  · simp [hi, h, Nat.not_lt.mpr h]
theorem b_ushr (n : Nat) (hn : n < 32) (x : Int32) (i : Nat) : bt ((x.toUInt32 >>> ((nI n).toUInt32 &&& Int32.toUInt32 31)).toInt32) i = bt x (n + i) := by
  show (x.toUInt32 >>> ((nI n).toUInt32 &&& Int32.toUInt32 31)).toBitVec.getLsbD i = x.toUInt32.toBitVec.getLsbD (n + i)
  rw [UInt32.toBitVec_shiftRight]
  show (x.toUInt32.toBitVec >>> (((nI n).toUInt32 &&& Int32.toUInt32 31).toBitVec % 32).toNat).getLsbD i = _
  rw [s_u n hn, BitVec.getLsbD_ushiftRight]
theorem nf_sh : ∀ l, l < 32 → ((1 : Int32) <<< (nI l &&& 31)).toBitVec = BitVec.twoPow 32 l := by decide +kernel
theorem nf_sl : ∀ l, l < 32 → (((nI l).toUInt32 &&& Int32.toUInt32 31).toBitVec % 32).toNat = l := by decide +kernel
theorem nf_tp : ∀ l, l < 32 → BitVec.twoPow 32 l ≠ 0#32 := by decide +kernel
theorem nf_bit (m : Int32) (l : Nat) (hl : l < 32) : ((m.toUInt32 >>> ((nI l).toUInt32 &&& Int32.toUInt32 31)).toInt32 &&& 1) = 0 ↔ (m &&& ((1 : Int32) <<< (nI l &&& 31))) = 0 := by
  have e : ((m.toUInt32 >>> ((nI l).toUInt32 &&& Int32.toUInt32 31)).toInt32).toBitVec = m.toBitVec >>> l := by
    show m.toBitVec >>> (((nI l).toUInt32 &&& Int32.toUInt32 31).toBitVec % 32) = m.toBitVec >>> l
    rw [BitVec.ushiftRight_eq', nf_sl l hl]
  rw [← Int32.toBitVec_inj, ← Int32.toBitVec_inj, Int32.toBitVec_and, Int32.toBitVec_and, nf_sh l hl, e, BitVec.and_twoPow]
  show (m.toBitVec >>> l &&& 1#32) = 0#32 ↔ _ = 0#32
  rw [BitVec.and_one_eq_setWidth_ofBool_getLsbD, BitVec.getLsbD_ushiftRight, Nat.add_zero]
  cases hb : m.toBitVec.getLsbD l
  · exact ⟨fun _ => by simp, fun _ => by decide⟩
  · exact ⟨fun z => absurd z (by decide), fun z => absurd ((if_pos rfl).symm.trans z) (nf_tp l hl)⟩
end
section
/-! stores of naturals, counts, sums, bits -/
abbrev zS (f : Nat → Nat) : Nat → Int32 := fun t => nI (f t)
def zU (f : Nat → Nat) (k v : Nat) : Nat → Nat := fun j => if j = k then v else f j
theorem zU_s {f : Nat → Nat} {k v : Nat} : zU f k v k = v := if_pos rfl
theorem zU_n {f : Nat → Nat} {k v j : Nat} (h : j ≠ k) : zU f k v j = f j := if_neg h
theorem zS_u (f : Nat → Nat) (k v : Nat) : upd (zS f) k (nI v) = zS (zU f k v) := by
  funext j
  by_cases h : j = k
  · subst h; rw [pk_us]; show _ = nI (zU f j v j); rw [zU_s]
  · rw [pk_un h]; show _ = nI (zU f k v j); rw [zU_n h]
theorem zS_ut {f : Nat → Nat} {k v : Nat} {x i : Int32} (hk : k < 2 ^ 31) (hi : i = nI k) (hx : x = nI v) : upd (zS f) i.toNatClampNeg x = zS (zU f k v) := by
  rw [hi, hx, nI_clamp hk, zS_u]
theorem zS_c {f : Nat → Nat} {t : Nat} (h : t < 2 ^ 31) : zS f (nI t).toNatClampNeg = nI (f t) := by rw [nI_clamp h]
theorem zU_id {f : Nat → Nat} {k v : Nat} (h : f k = v) : zU f k v = f := by
  funext j
  by_cases e : j = k
  · rw [e, zU_s, h]
  · rw [zU_n e]
theorem zU_zU {f : Nat → Nat} {k v w : Nat} : zU (zU f k v) k w = zU f k w := by
  funext j
  by_cases e : j = k
  · rw [e, zU_s, zU_s]
  · rw [zU_n e, zU_n e, zU_n e]
theorem upd_id {f : Nat → Int32} {k : Nat} {v : Int32} (h : f k = v) : upd f k v = f := by
  funext j
  by_cases e : j = k
  · rw [e, pk_us, h]
  · rw [pk_un e]
theorem zi {c d A B : Prop} (e : c ↔ d) (f : d → A) (g : ¬ d → B) : (c → A) ∧ (¬ c → B) := ⟨fun h => f (e.mp h), fun h => g (fun z => h (e.mpr z))⟩
def zB (b : Bool) : Int32 := if b = true then 1 else 0
theorem zB_0 {b : Bool} : zB b = 0 ↔ b = false := by cases b <;> decide
def zc (f : Nat → Bool) : Nat → Nat
  | 0 => 0
  | n + 1 => zc f n + (if f n = true then 1 else 0)
def zm (f : Nat → Nat) : Nat → Nat
  | 0 => 0
  | n + 1 => zm f n + f n
def zp (x : Int32) : Nat := zc (bt x) 32
theorem zc_le (f : Nat → Bool) : ∀ n, zc f n ≤ n := by
  intro n
  induction n with
  | zero => exact Nat.le_refl 0
  | succ n ih => show zc f n + (if f n = true then 1 else 0) ≤ n + 1; split <;> omega
theorem zp_le (x : Int32) : zp x ≤ 32 := zc_le _ 32
theorem zc_congr {f g : Nat → Bool} : ∀ n, (∀ k, k < n → f k = g k) → zc f n = zc g n := by
  intro n
  induction n with
  | zero => intro _; rfl
  | succ n ih =>
    intro h
    show zc f n + (if f n = true then 1 else 0) = zc g n + (if g n = true then 1 else 0)
    rw [ih (fun k hk => h k (by omega)), h n (by omega)]
theorem zc_ext {f : Nat → Bool} {n : Nat} : ∀ d, (∀ k, n ≤ k → k < n + d → f k = false) → zc f (n + d) = zc f n := by
  intro d
  induction d with
  | zero => intro _; rfl
  | succ d ih =>
    intro h
    show zc f (n + d) + (if f (n + d) = true then 1 else 0) = zc f n
    rw [ih (fun k h1 h2 => h k h1 (by omega)), h (n + d) (by omega) (by omega)]
    rfl
theorem zc_pos {f : Nat → Bool} : ∀ n, 0 < zc f n ↔ ∃ k, k < n ∧ f k = true := by
  intro n
  induction n with
  | zero => exact ⟨fun h => absurd h (Nat.lt_irrefl 0), fun ⟨k, hk, _⟩ => absurd hk (Nat.not_lt_zero k)⟩
  | succ n ih =>
    show 0 < zc f n + (if f n = true then 1 else 0) ↔ _
    by_cases h : f n = true
    · rw [if_pos h]; exact ⟨fun _ => ⟨n, by omega, h⟩, fun _ => by omega⟩
    · rw [if_neg h, Nat.add_zero, ih]
      refine ⟨fun ⟨k, hk, e⟩ => ⟨k, by omega, e⟩, fun ⟨k, hk, e⟩ => ⟨k, ?_, e⟩⟩
      have : k ≠ n := fun z => h (z ▸ e)
      omega
theorem zc_or {f g q : Nat → Bool} : ∀ n, (∀ k, k < n → q k = (f k || g k) ∧ ¬ (f k = true ∧ g k = true)) → zc q n = zc f n + zc g n := by
  intro n
  induction n with
  | zero => intro _; rfl
  | succ n ih =>
    intro h
    show zc q n + (if q n = true then 1 else 0) = zc f n + (if f n = true then 1 else 0) + (zc g n + (if g n = true then 1 else 0))
    rw [ih (fun k hk => h k (by omega))]
    have ⟨h1, h2⟩ := h n (by omega)
    rw [h1]
    revert h2
    cases f n <;> cases g n <;> intro h2
    · show _ = _; simp
    · show _ = _; simp; omega
    · show _ = _; simp; omega
    · exact absurd ⟨rfl, rfl⟩ h2
theorem zm_congr {f g : Nat → Nat} : ∀ n, (∀ k, k < n → f k = g k) → zm f n = zm g n := by
  intro n
  induction n with
  | zero => intro _; rfl
  | succ n ih =>
    intro h
    show zm f n + f n = zm g n + g n
    rw [ih (fun k hk => h k (by omega)), h n (by omega)]
theorem zm_upd {f g : Nat → Nat} {t : Nat} : ∀ n, t < n → (∀ k, k < n → k ≠ t → f k = g k) → zm f n + g t = zm g n + f t := by
  intro n
  induction n with
  | zero => intro h; exact absurd h (Nat.not_lt_zero t)
  | succ n ih =>
    intro ht h
    show zm f n + f n + g t = zm g n + g n + f t
    by_cases e : t = n
    · subst e
      rw [zm_congr t (fun k hk => h k (by omega) (by omega))]
      omega
    · have := ih (by omega) (fun k hk => h k (by omega))
      rw [h n (by omega) (by omega)]
      omega
theorem zm_le {f : Nat → Nat} : ∀ n, (∀ k, k < n → f k ≤ 1) → zm f n ≤ n := by
  intro n
  induction n with
  | zero => intro _; exact Nat.le_refl 0
  | succ n ih =>
    intro h
    show zm f n + f n ≤ n + 1
    have := ih (fun k hk => h k (by omega))
    have := h n (by omega)
    omega
theorem zm_ge {f : Nat → Nat} {t : Nat} : ∀ n, t < n → f t ≤ zm f n := by
  intro n
  induction n with
  | zero => intro h; exact absurd h (Nat.not_lt_zero t)
  | succ n ih =>
    intro h
    show f t ≤ zm f n + f n
    by_cases e : t = n
    · subst e; omega
    · have := ih (by omega); omega
theorem zm_0 {f : Nat → Nat} : ∀ n, (∀ k, k < n → f k = 0) → zm f n = 0 := by
  intro n
  induction n with
  | zero => intro _; rfl
  | succ n ih =>
    intro h
    show zm f n + f n = 0
    rw [ih (fun k hk => h k (by omega)), h n (by omega)]
/-! bits -/
theorem zb_f {b : Bool} : ¬ b = true ↔ b = false := by cases b <;> simp
theorem zb_0 (x : Int32) : x = 0 ↔ ∀ k, k < 32 → bt x k = false := by
  constructor
  · intro h k _; rw [h, b_0]
  · intro h; exact b_ext (fun i hi => by rw [h i hi, b_0])
theorem zb_n0 (x : Int32) : ¬ x = 0 ↔ ∃ k, k < 32 ∧ bt x k = true := by
  constructor
  · intro h
    refine Classical.byContradiction fun z => h ((zb_0 x).mpr fun k hk => ?_)
    exact zb_f.mp fun e => z ⟨k, hk, e⟩
  · intro ⟨k, hk, e⟩ h
    rw [(zb_0 x).mp h k hk] at e
    exact Bool.noConfusion e
theorem zb_and (a b : Int32) : ¬ (a &&& b) = 0 ↔ ∃ k, k < 32 ∧ bt a k = true ∧ bt b k = true := by
  rw [zb_n0]
  constructor
  · intro ⟨k, hk, e⟩; rw [b_and, Bool.and_eq_true] at e; exact ⟨k, hk, e⟩
  · intro ⟨k, hk, e⟩; exact ⟨k, hk, by rw [b_and, Bool.and_eq_true]; exact e⟩
theorem zb_1 : ∀ i, i < 32 → bt 1 i = decide (i = 0) := by decide +kernel
theorem zb_one {k i : Nat} (hk : k < 32) (hi : i < 32) : bt ((1 : Int32) <<< (nI k &&& 31)) i = decide (i = k) := by
  rw [b_shl k hk 1 hi, zb_1 (i - k) (by omega)]
  by_cases h : i = k
  · subst h; simp
  · by_cases h2 : k ≤ i
    · rw [decide_eq_true h2, decide_eq_false h, decide_eq_false (by omega)]; rfl
    · rw [decide_eq_false h2, decide_eq_false h]; rfl
theorem zb_bit {m : Int32} {k : Nat} (hk : k < 32) : (m &&& ((1 : Int32) <<< (nI k &&& 31))) = 0 ↔ bt m k = false := by
  constructor
  · intro h
    have e := (zb_0 _).mp h k hk
    rw [b_and, zb_one hk hk, decide_eq_true rfl, Bool.and_true] at e
    exact e
  · intro h
    refine (zb_0 _).mpr fun i hi => ?_
    rw [b_and, zb_one hk hi]
    by_cases e : i = k
    · rw [e, h]; rfl
    · rw [decide_eq_false e, Bool.and_false]
theorem zb_set {m : Int32} {k i : Nat} (hk : k < 32) (hi : i < 32) : bt (m ||| ((1 : Int32) <<< (nI k &&& 31))) i = true ↔ bt m i = true ∨ i = k := by
  rw [b_or, zb_one hk hi, Bool.or_eq_true, decide_eq_true_eq]
theorem zb_sh1 {x : Int32} {i : Nat} (hi : i < 32) : (((x.toUInt32 >>> ((nI i).toUInt32 &&& Int32.toUInt32 31)).toInt32) &&& 1) = zB (bt x i) := by
  apply b_ext
  intro j hj
  rw [b_and, b_ushr i hi, zb_1 j hj]
  by_cases h : j = 0
  · subst h
    rw [decide_eq_true rfl, Bool.and_true, Nat.add_zero]
    cases bt x i <;> rfl
  · rw [decide_eq_false h, Bool.and_false]
    cases bt x i
    · exact (b_0 j).symm
    · show false = bt 1 j
      rw [zb_1 j hj, decide_eq_false h]
theorem zB_n (b : Bool) : zB b = nI (if b = true then 1 else 0) := by cases b <;> rfl
def zR (lo hi : Nat) : Int32 := ((-1 : Int32) <<< (nI lo &&& 31)) &&& (((-1 : Int32).toUInt32 >>> ((31 - nI hi).toUInt32 &&& Int32.toUInt32 31)).toInt32)
theorem zb_rng {lo hi k : Nat} (hl : lo < 32) (hh : hi < 32) (hk : k < 32) : bt (zR lo hi) k = decide (lo ≤ k ∧ k ≤ hi) := by
  have e : (31 : Int32) - nI hi = nI (31 - hi) := pk_sub (a := 31) (by omega)
  unfold zR
  rw [b_and, b_shl lo hl (-1) hk, e, b_ushr (31 - hi) (by omega)]
  by_cases h1 : lo ≤ k
  · rw [b_m1 (k - lo) (by omega), decide_eq_true h1, Bool.true_and, Bool.true_and]
    by_cases h2 : k ≤ hi
    · rw [b_m1 _ (by omega), decide_eq_true ⟨h1, h2⟩]
    · rw [b_big (by omega), decide_eq_false (fun z => h2 z.2)]
  · rw [decide_eq_false h1, decide_eq_false (fun z => h1 z.1)]; rfl
theorem zb_not (x : Int32) {k : Nat} (hk : k < 32) : bt (x ^^^ (-1)) k = !(bt x k) := by
  rw [b_xor, b_m1 k hk]; cases bt x k <;> rfl
def zf (rs ws : Nat → Int32) (t lo hi : Nat) : Int32 := zR lo hi &&& ((ws t ||| rs t) ^^^ (-1))
theorem zf_bt {rs ws : Nat → Int32} {t lo hi k : Nat} (hl : lo < 32) (hh : hi < 32) (hk : k < 32) : bt (zf rs ws t lo hi) k = true ↔ (lo ≤ k ∧ k ≤ hi) ∧ bt (ws t) k = false ∧ bt (rs t) k = false := by
  unfold zf
  rw [b_and, zb_rng hl hh hk, zb_not _ hk, b_or, Bool.and_eq_true, decide_eq_true_eq]
  cases bt (ws t) k <;> cases bt (rs t) k <;> simp
theorem zp_0 : zp 0 = 0 := by
  have h : ¬ 0 < zp 0 := by
    unfold zp
    rw [zc_pos]
    intro ⟨k, _, e⟩
    rw [b_0] at e
    exact Bool.noConfusion e
  omega
theorem zp_eq0 {x : Int32} : zp x = 0 ↔ x = 0 := by
  constructor
  · intro h
    refine Classical.byContradiction fun z => ?_
    have := (zc_pos 32).mpr ((zb_n0 x).mp z)
    unfold zp at h
    omega
  · intro h; rw [h, zp_0]
theorem zp_or {a b : Int32} (h : ∀ k, k < 32 → ¬ (bt a k = true ∧ bt b k = true)) : zp (a ||| b) = zp a + zp b :=
  zc_or 32 (fun k hk => ⟨b_or a b k, h k hk⟩)
theorem zp_K {x : Int32} {K : Nat} (hK : K ≤ 32) (h : ∀ k, K ≤ k → bt x k = false) : zp x = zc (bt x) K := by
  have e : 32 = K + (32 - K) := by omega
  unfold zp
  rw [e]
  exact zc_ext (32 - K) (fun k h1 _ => h k h1)
/-! an index of two numbers -/
theorem zx (t k : Nat) : nI t * 32 + nI k = nI (t * 32 + k) := by
  rw [show (32 : Int32) = nI 32 from rfl, pk_mul, nI_add]
theorem zx_in {t k : Nat} (ht : t < 32) (hk : k < 32) : vp_in (nI t * 32 + nI k) 1024 := by
  rw [zx]; exact vp_in_nI (by omega) (by decide)
theorem zx_c {t k : Nat} (ht : t < 32) (hk : k < 32) : (nI t * 32 + nI k).toNatClampNeg = t * 32 + k := by
  rw [zx]; exact nI_clamp (by omega)
theorem zi_in {t : Nat} (h : t < 32) : vp_in (nI t) 32 := vp_in_nI h (by decide)
theorem zn7 : ∀ k, k < 32 → ¬ nI k = (-7) := by decide +kernel
theorem znb0 : vp_nar .boolean 0 = 0 := by rfl
theorem znb1 : vp_nar .boolean 1 = 1 := by rfl
end
section
/-! the pure picture -/
def zv (bs ws wr : Nat → Int32) (L : Nat → Nat) (k : Nat) : Nat → Int32
  | 0 => bs k
  | n + 1 => if bt (ws (L (n + 1))) k = true then wr (L (n + 1) * 32 + k) else zv bs ws wr L k n
def zw (bs ws wr : Nat → Int32) (B L : Nat → Nat) (t k : Nat) : Int32 := if bt (ws t) k = true then wr (t * 32 + k) else zv bs ws wr L k (B t)
def zBas (T cc bg : Nat) (S B C L : Nat → Nat) : Prop :=
  (T ≤ 32 ∧ bg ≤ T ∧ zm (fun t => if S t = 2 then 1 else 0) T = cc) ∧
  (∀ t, S t ≤ 3 ∧ B t ≤ cc) ∧
  (∀ t, t < bg → S t ≠ 0) ∧ (∀ t, bg ≤ t → S t = 0 ∧ B t = 0) ∧
  (∀ s t, s ≤ t → t < bg → B s ≤ B t) ∧
  (∀ t, S t = 2 → 1 ≤ C t ∧ C t ≤ cc ∧ B t < C t ∧ L (C t) = t) ∧
  (∀ t, S t ≠ 2 → C t = 0) ∧
  (∀ c, 1 ≤ c → c ≤ cc → S (L c) = 2 ∧ C (L c) = c)
def zHz (cc : Nat) (S B : Nat → Nat) (h : Nat) : Prop :=
  h ≤ cc ∧ (∀ t, S t = 1 → h ≤ B t) ∧ ((∃ t, S t = 1 ∧ B t = h) ∨ ((∀ t, S t ≠ 1) ∧ h = cc))
def zKf (S C : Nat → Nat) (rs : Nat → Int32) (h : Nat) : Nat → Nat := fun t => if S t = 1 ∨ (S t = 2 ∧ h < C t) then zp (rs t) else 0
def zKS (T : Nat) (S C : Nat → Nat) (rs : Nat → Int32) (h : Nat) : Nat := zm (zKf S C rs h) T
def zBit (K : Nat) (S : Nat → Nat) (rs ws : Nat → Int32) : Prop :=
  ∀ t, (∀ k, K ≤ k → bt (rs t) k = false ∧ bt (ws t) k = false) ∧ ((S t = 0 ∨ S t = 3) → rs t = 0 ∧ ws t = 0)
def zTie (rs ws wr rd wt la : Nat → Int32) : Prop :=
  ∀ t k, t < 32 → k < 32 → rd (t * 32 + k) = zB (bt (rs t) k) ∧ wt (t * 32 + k) = zB (bt (ws t) k) ∧ (bt (ws t) k = true → la (t * 32 + k) = wr (t * 32 + k))
def zCfl (S B C : Nat → Nat) (rs ws : Nat → Int32) (a b : Nat) : Prop :=
  a ≠ b ∧ (S a = 1 ∨ S a = 2) ∧ (S b = 1 ∨ S b = 2) ∧ ¬ (rs a &&& ws b) = 0 ∧ ¬ (S a = 2 ∧ C a ≤ B b) ∧ ¬ (S b = 2 ∧ C b ≤ B a)
def zBef (S B C : Nat → Nat) (rs ws : Nat → Int32) (y x : Nat) : Prop :=
  y ≠ x ∧ S y = 2 ∧ (C y ≤ B x ∨ zCfl S B C rs ws y x)
def zLO (cc : Nat) (B L : Nat → Nat) (rs ws : Nat → Int32) (t n : Nat) : Prop :=
  (n = 0 ∧ ∀ c, B t < c → c ≤ cc → (rs t &&& ws (L c)) = 0) ∨
  (B t < n ∧ n ≤ cc ∧ ¬ (rs t &&& ws (L n)) = 0 ∧ ∀ c, B t < c → c < n → (rs t &&& ws (L c)) = 0)
def zLost (S B C : Nat → Nat) (ws : Nat → Int32) (t : Nat) : Prop := ∃ x, S x = 2 ∧ B t < C x ∧ ¬ (ws x &&& ws t) = 0
def zDan (S B C : Nat → Nat) (rs ws : Nat → Int32) (t m c : Nat) : Prop :=
  S m = 2 ∧ S c = 2 ∧
  ((C c < C m ∧ zCfl S B C rs ws t m ∧ zCfl S B C rs ws m c ∧ (¬ ws t = 0 ∨ C c ≤ B t)) ∨
   (C c ≤ C m ∧ zCfl S B C rs ws m t ∧ zCfl S B C rs ws t c ∧ (¬ ws m = 0 ∨ C c ≤ B m)))
def zUns (S B C : Nat → Nat) (rs ws : Nat → Int32) (t : Nat) : Prop := ∃ m c, zDan S B C rs ws t m c
def zCand (S B C : Nat → Nat) (rs ws : Nat → Int32) (P : Nat → Prop) (x : Nat) : Prop :=
  S x = 2 ∧ ¬ P x ∧ ∀ y, zBef S B C rs ws y x → P y
def zBest (S B C : Nat → Nat) (rs ws : Nat → Int32) (P : Nat → Prop) (x : Nat) : Prop :=
  zCand S B C rs ws P x ∧ ∀ z, zCand S B C rs ws P z → C x ≤ C z
def zPl (O : Nat → Nat) (n : Nat) : Nat → Prop := fun y => ∃ j, j < n ∧ O j = y
def zGM (cc : Nat) (S B C : Nat → Nat) (rs ws : Nat → Int32) (O : Nat → Nat) (os : Nat) : Prop :=
  os ≤ cc ∧ (∀ i, i < os → zBest S B C rs ws (zPl O i) (O i)) ∧ ∀ x, ¬ zCand S B C rs ws (zPl O os) x
def zFO (B C L : Nat → Nat) (rs ws : Nat → Int32) (x n : Nat) : Prop := zLO (C x - 1) B L rs ws x n
def zCom (cc : Nat) (S B C : Nat → Nat) (rs ws : Nat → Int32) (FO : Nat → Nat) (ea : Nat → Int32) (L : Nat → Nat) (os : Nat) (oc : Int32) (od : Nat → Int32) : Prop :=
  (∀ x, S x = 2 → zFO B C L rs ws x (FO x)) ∧
  (∀ x, S x = 2 → ∀ y, y < 32 → (bt (ea x) y = true ↔ zBef S B C rs ws y x)) ∧
  (¬ oc = 0 → ∃ O : Nat → Nat, zGM cc S B C rs ws O os ∧ ∀ i, i < os → od i = nI (O i))
def zInv (T K Wl Ml cc bg kp hz os : Nat) (oc : Int32) (S B C : Nat → Nat) (rs ws : Nat → Int32) (FO : Nat → Nat) (ea wr : Nat → Int32) (L : Nat → Nat) (od rd wt la : Nat → Int32) : Prop :=
  (K ≤ 32 ∧ Wl ≤ 8 ∧ Ml ≤ 256) ∧ zBas T cc bg S B C L ∧ zHz cc S B hz ∧ (kp = zKS T S C rs hz ∧ kp ≤ Ml) ∧
  zBit K S rs ws ∧ zTie rs ws wr rd wt la ∧ zCom cc S B C rs ws FO ea L os oc od
section
variable {T K Wl Ml cc bg kp hz os : Nat} {oc : Int32} {bs : Nat → Int32} {S B C : Nat → Nat} {rs ws : Nat → Int32} {FO : Nat → Nat} {ea wr : Nat → Int32} {L : Nat → Nat} {od : Nat → Int32} {rd wt la pl : Nat → Int32}
theorem zBas_T (h : zBas T cc bg S B C L) : T ≤ 32 := h.1.1
theorem zBas_bg (h : zBas T cc bg S B C L) : bg ≤ T := h.1.2.1
theorem zBas_cc (h : zBas T cc bg S B C L) : cc ≤ T := by
  rw [← h.1.2.2]
  refine zm_le T (fun k _ => ?_)
  show (if S k = 2 then 1 else 0) ≤ 1
  split <;> omega
theorem zBas_S (h : zBas T cc bg S B C L) (t : Nat) : S t ≤ 3 := (h.2.1 t).1
theorem zBas_B (h : zBas T cc bg S B C L) (t : Nat) : B t ≤ cc := (h.2.1 t).2
theorem zBas_lt (h : zBas T cc bg S B C L) {t : Nat} (ht : S t ≠ 0) : t < bg :=
  Classical.byContradiction fun z => ht (h.2.2.2.1 t (by omega)).1
theorem zBas_ltT (h : zBas T cc bg S B C L) {t : Nat} (ht : S t ≠ 0) : t < T := by
  have := zBas_lt h ht
  have := zBas_bg h
  omega
theorem zBas_C (h : zBas T cc bg S B C L) {t : Nat} (ht : S t = 2) : 1 ≤ C t ∧ C t ≤ cc ∧ B t < C t ∧ L (C t) = t := h.2.2.2.2.2.1 t ht
theorem zBas_Cl (h : zBas T cc bg S B C L) (t : Nat) : C t ≤ cc := by
  by_cases e : S t = 2
  · exact (zBas_C h e).2.1
  · rw [h.2.2.2.2.2.2.1 t e]; omega
theorem zBas_L (h : zBas T cc bg S B C L) {c : Nat} (h1 : 1 ≤ c) (h2 : c ≤ cc) : S (L c) = 2 ∧ C (L c) = c := h.2.2.2.2.2.2.2 c h1 h2
theorem zBas_L32 (h : zBas T cc bg S B C L) {c : Nat} (h1 : 1 ≤ c) (h2 : c ≤ cc) : L c < 32 := by
  have := zBas_ltT h (t := L c) (by rw [(zBas_L h h1 h2).1]; decide)
  have := zBas_T h
  omega
theorem zBas_inj (h : zBas T cc bg S B C L) {x y : Nat} (hx : S x = 2) (hy : S y = 2) (e : C x = C y) : x = y := by
  rw [← (zBas_C h hx).2.2.2, ← (zBas_C h hy).2.2.2, e]
end
end
section
/-! the component's walks, first part -/
section
variable {T K Wl Ml cc bg kp hz os : Nat} {oc : Int32} {bs : Nat → Int32} {S B C : Nat → Nat} {rs ws : Nat → Int32} {FO : Nat → Nat} {ea wr : Nat → Int32} {L : Nat → Nat} {od : Nat → Int32} {rd wt la pl : Nat → Int32}
variable {post : Int32 → Prop} {qost : SX → Prop} {rost : Int32 → SX → Prop}
theorem xw_txn {t : Nat} (hT : T ≤ 32) (h : t < T) (hp : post 1) : wpX_isTxn post (nI T, nI K, nI Wl, nI Ml, nI cc, nI bg, nI kp, nI hz, nI os, oc, bs, zS S, zS B, zS C, rs, ws, zS FO, ea, wr, zS L, od) (nI t) :=
  br_f (nI_pos (by omega)) (br_f (nI_ge h (by omega)) hp)
theorem xw_txnF {p : Int32} (hT : T ≤ 32) (h : ¬ ∃ t, t < T ∧ p = nI t) (hp : post 0) : wpX_isTxn post (nI T, nI K, nI Wl, nI Ml, nI cc, nI bg, nI kp, nI hz, nI os, oc, bs, zS S, zS B, zS C, rs, ws, zS FO, ea, wr, zS L, od) p := by
  rcases pk_ix p (n := T) (by omega) with h1 | h1 | h1
  · exact br_t h1 hp
  · by_cases h2 : p < 0
    · exact br_t h2 hp
    · exact br_f h2 (br_t h1 hp)
  · exact absurd h1 h
theorem xw_key {t : Nat} (hK : K ≤ 32) (h : t < K) (hp : post 1) : wpX_isKey post (nI T, nI K, nI Wl, nI Ml, nI cc, nI bg, nI kp, nI hz, nI os, oc, bs, zS S, zS B, zS C, rs, ws, zS FO, ea, wr, zS L, od) (nI t) :=
  br_f (nI_pos (by omega)) (br_f (nI_ge h (by omega)) hp)
theorem xw_keyF {p : Int32} (hK : K ≤ 32) (h : ¬ ∃ t, t < K ∧ p = nI t) (hp : post 0) : wpX_isKey post (nI T, nI K, nI Wl, nI Ml, nI cc, nI bg, nI kp, nI hz, nI os, oc, bs, zS S, zS B, zS C, rs, ws, zS FO, ea, wr, zS L, od) p := by
  rcases pk_ix p (n := K) (by omega) with h1 | h1 | h1
  · exact br_t h1 hp
  · by_cases h2 : p < 0
    · exact br_t h2 hp
    · exact br_f h2 (br_t h1 hp)
  · exact absurd h1 h
theorem yw_txn {t : Nat} (hT : T ≤ 32) (h : t < T) (hp : post 0) : wpY_badTxn post (nI T, nI K, nI Wl, nI Ml, nI cc, bs, zS S, zS B, zS C, rd, wt, la, pl) (nI t) :=
  br_f (nI_pos (by omega)) (br_t (nI_lt h (by omega)) hp)
theorem yw_txnF {p : Int32} (hT : T ≤ 32) (h : ¬ ∃ t, t < T ∧ p = nI t) (hp : post 1) : wpY_badTxn post (nI T, nI K, nI Wl, nI Ml, nI cc, bs, zS S, zS B, zS C, rd, wt, la, pl) p := by
  rcases pk_ix p (n := T) (by omega) with h1 | h1 | h1
  · exact br_t h1 hp
  · by_cases h2 : p < 0
    · exact br_t h2 hp
    · exact br_f h2 (br_f (Int32.not_lt.mpr h1) hp)
  · exact absurd h1 h
theorem yw_key {t : Nat} (hK : K ≤ 32) (h : t < K) (hp : post 0) : wpY_badKey post (nI T, nI K, nI Wl, nI Ml, nI cc, bs, zS S, zS B, zS C, rd, wt, la, pl) (nI t) :=
  br_f (nI_pos (by omega)) (br_t (nI_lt h (by omega)) hp)
theorem yw_keyF {p : Int32} (hK : K ≤ 32) (h : ¬ ∃ t, t < K ∧ p = nI t) (hp : post 1) : wpY_badKey post (nI T, nI K, nI Wl, nI Ml, nI cc, bs, zS S, zS B, zS C, rd, wt, la, pl) p := by
  rcases pk_ix p (n := K) (by omega) with h1 | h1 | h1
  · exact br_t h1 hp
  · by_cases h2 : p < 0
    · exact br_t h2 hp
    · exact br_f h2 (br_f (Int32.not_lt.mpr h1) hp)
  · exact absurd h1 h
theorem zS_eq {f : Nat → Nat} {t c : Nat} (ht : t < 2 ^ 31) (hf : f t < 2 ^ 31) (hc : c < 2 ^ 31) : zS f (nI t).toNatClampNeg = nI c ↔ f t = c := by
  rw [zS_c ht, nI_eq hf hc]
theorem zS_1 {t : Nat} (ht : t < 32) (hS : S t ≤ 3) : zS S (nI t).toNatClampNeg = 1 ↔ S t = 1 := zS_eq (c := 1) (by omega) (by omega) (by decide)
theorem zS_2 {t : Nat} (ht : t < 32) (hS : S t ≤ 3) : zS S (nI t).toNatClampNeg = 2 ↔ S t = 2 := zS_eq (c := 2) (by omega) (by omega) (by decide)
theorem zS_0 {t : Nat} (ht : t < 32) (hS : S t ≤ 3) : zS S (nI t).toNatClampNeg = 0 ↔ S t = 0 := zS_eq (c := 0) (by omega) (by omega) (by decide)
/-- the common checks of a range call: one outcome for both -/
theorem ck_out (hT : T ≤ 32) (hK : K ≤ 32) (hS : ∀ t, S t ≤ 3) (v1 v2 v3 : Int32) : ∃ r : Int32,
    ((r = 0 ∧ ∃ t lo hi, t < T ∧ lo ≤ hi ∧ hi < K ∧ S t = 1 ∧ v1 = nI t ∧ v2 = nI lo ∧ v3 = nI hi) ∨ ¬ r = 0) ∧
    (∀ post : Int32 → Prop, post r → wpX_checkRange post (nI T, nI K, nI Wl, nI Ml, nI cc, nI bg, nI kp, nI hz, nI os, oc, bs, zS S, zS B, zS C, rs, ws, zS FO, ea, wr, zS L, od) v1 v2 v3) ∧
    (∀ post : Int32 → Prop, post r → wpY_check post (nI T, nI K, nI Wl, nI Ml, nI cc, bs, zS S, zS B, zS C, rd, wt, la, pl) v1 v2 v3) := by
  by_cases h1 : ∃ t, t < T ∧ v1 = nI t
  · obtain ⟨t, ht, rfl⟩ := h1
    by_cases h2 : v2 < 0
    · exact ⟨-1, Or.inr (by decide), fun post hp => by unfold wpX_checkRange; exact xw_txn hT ht (br_f (by decide) (br_t h2 hp)), fun post hp => by unfold wpY_check; exact yw_txn hT ht (br_t rfl (br_t h2 hp))⟩
    · by_cases h3 : v3 < v2
      · exact ⟨-1, Or.inr (by decide), fun post hp => by unfold wpX_checkRange; exact xw_txn hT ht (br_f (by decide) (br_f h2 (br_t h3 hp))), fun post hp => by unfold wpY_check; exact yw_txn hT ht (br_t rfl (br_f h2 (br_t h3 hp)))⟩
      · by_cases h4 : v3 < nI K
        · obtain ⟨lo, hlo, rfl⟩ := nI_of h2
          have h30 : ¬ v3 < 0 := by
            intro z
            rw [Int32.lt_iff_toInt_lt] at h2 h3 z
            have := show (0 : Int32).toInt = 0 by decide
            omega
          obtain ⟨hi, hhi, rfl⟩ := nI_of h30
          rw [nI_ltI hhi hlo] at h3
          have h5 := (nI_ltI hhi (by omega)).mp h4
          by_cases h6 : S t = 1
          · have h7 := (zS_1 (by omega) (hS t)).mpr h6
            exact ⟨0, Or.inl ⟨rfl, t, lo, hi, ht, by omega, h5, h6, rfl, rfl, rfl⟩,
              fun post hp => by unfold wpX_checkRange; exact xw_txn hT ht (br_f (by decide) (br_f h2 (br_f (fun z => h3 ((nI_ltI hhi hlo).mp z)) (br_t h4 ⟨zi_in (by omega), br_t h7 hp⟩)))),
              fun post hp => by unfold wpY_check; exact yw_txn hT ht (br_t rfl (br_f h2 (br_f (fun z => h3 ((nI_ltI hhi hlo).mp z)) (br_t h4 ⟨zi_in (by omega), br_t h7 hp⟩))))⟩
          · have h7 := fun z => h6 ((zS_1 (by omega) (hS t)).mp z)
            exact ⟨-2, Or.inr (by decide),
              fun post hp => by unfold wpX_checkRange; exact xw_txn hT ht (br_f (by decide) (br_f h2 (br_f (fun z => h3 ((nI_ltI hhi hlo).mp z)) (br_t h4 ⟨zi_in (by omega), br_f h7 hp⟩)))),
              fun post hp => by unfold wpY_check; exact yw_txn hT ht (br_t rfl (br_f h2 (br_f (fun z => h3 ((nI_ltI hhi hlo).mp z)) (br_t h4 ⟨zi_in (by omega), br_f h7 hp⟩))))⟩
        · exact ⟨-1, Or.inr (by decide), fun post hp => by unfold wpX_checkRange; exact xw_txn hT ht (br_f (by decide) (br_f h2 (br_f h3 (br_f h4 hp)))), fun post hp => by unfold wpY_check; exact yw_txn hT ht (br_t rfl (br_f h2 (br_f h3 (br_f h4 hp))))⟩
  · exact ⟨-1, Or.inr (by decide), fun post hp => by unfold wpX_checkRange; exact xw_txnF hT h1 (br_t rfl hp), fun post hp => by unfold wpY_check; exact yw_txnF hT h1 (br_f (by decide) hp)⟩
theorem xw_size_l {x : Int32} (hp : post (nI (zp x))) : ∀ d i, i + d = 32 → wX_size_4 post x (nI T) (nI K) (nI Wl) (nI Ml) (nI cc) (nI bg) (nI kp) (nI hz) (nI os) oc bs (zS S) (zS B) (zS C) rs ws (zS FO) ea wr (zS L) od (d + 1) (nI (zc (bt x) i)) (nI i) := by
  intro d
  induction d with
  | zero =>
    intro i hi
    obtain rfl : i = 32 := by omega
    exact br_t (nI_le (a := 32) (b := 32) (by decide) (by decide)) hp
  | succ d ih =>
    intro i hi
    refine br_f (nI_ge (b := 32) (by omega) (by decide)) (nm_r (e' := nI (zc (bt x) (i + 1))) ?_ (nm_r (nI_1 i) (ih (i + 1) (by omega))))
    rw [zb_sh1 (by omega), zB_n, nI_add]
    rfl
theorem xw_size {x : Int32} (hp : post (nI (zp x))) : wpX_size post (nI T, nI K, nI Wl, nI Ml, nI cc, nI bg, nI kp, nI hz, nI os, oc, bs, zS S, zS B, zS C, rs, ws, zS FO, ea, wr, zS L, od) x := Exists.intro 33 (xw_size_l hp 32 0 rfl)
theorem xw_ver_l {k : Nat} (hk : k < 32) (hb : zBas T cc bg S B C L) : ∀ n, n ≤ cc → post (zv bs ws wr L k n) → wX_version_7 post (nI k) ((1 : Int32) <<< (nI k &&& 31)) (nI T) (nI K) (nI Wl) (nI Ml) (nI cc) (nI bg) (nI kp) (nI hz) (nI os) oc bs (zS S) (zS B) (zS C) rs ws (zS FO) ea wr (zS L) od (n + 1) (nI n) := by
  intro n
  have hT := zBas_T hb
  have hcc := zBas_cc hb
  induction n with
  | zero =>
    intro _ hp
    refine br_t (by decide) ⟨zi_in hk, ?_⟩
    rw [nI_clamp (show k < 2 ^ 31 by omega)]
    exact hp
  | succ n ih =>
    intro hn hp
    have hL := zBas_L32 hb (c := n + 1) (by omega) hn
    refine br_f (nI_nlt (b := 1) (by omega) (by omega)) ⟨vp_in_nI (by omega) (by decide), nm_r (e' := nI (L (n + 1))) (zS_c (by omega)) ⟨zi_in hL, ?_⟩⟩
    rw [nI_clamp (show L (n + 1) < 2 ^ 31 by omega)]
    by_cases hbt : bt (ws (L (n + 1))) k = true
    · refine br_f (fun z => ?_) ⟨zx_in hL hk, ?_⟩
      · rw [(zb_bit hk).mp z] at hbt
        exact Bool.noConfusion hbt
      · rw [zx_c hL hk]
        rw [zv, if_pos hbt] at hp
        exact hp
    · rw [zv, if_neg hbt] at hp
      exact br_t ((zb_bit hk).mpr (zb_f.mp hbt)) (nm_r (pk_m1 n) (ih (by omega) hp))
theorem xw_ver {k n : Nat} (hk : k < 32) (hb : zBas T cc bg S B C L) (hn : n ≤ cc) (hp : post (zv bs ws wr L k n)) : wpX_version post (nI T, nI K, nI Wl, nI Ml, nI cc, nI bg, nI kp, nI hz, nI os, oc, bs, zS S, zS B, zS C, rs, ws, zS FO, ea, wr, zS L, od) (nI n) (nI k) :=
  nm_e ⟨n + 1, xw_ver_l hk hb n hn hp⟩
theorem xw_view {t k : Nat} (ht : t < 32) (hk : k < 32) (hb : zBas T cc bg S B C L) (hp : post (zw bs ws wr B L t k)) : wpX_view post (nI T, nI K, nI Wl, nI Ml, nI cc, nI bg, nI kp, nI hz, nI os, oc, bs, zS S, zS B, zS C, rs, ws, zS FO, ea, wr, zS L, od) (nI t) (nI k) := by
  refine And.intro (zi_in ht) ?_
  rw [zS_c (show t < 2 ^ 31 by omega), nI_clamp (show t < 2 ^ 31 by omega)]
  unfold zw at hp
  by_cases hbt : bt (ws t) k = true
  · rw [if_pos hbt] at hp
    refine br_f (fun z => ?_) ⟨zx_in ht hk, ?_⟩
    · rw [(zb_bit hk).mp z] at hbt
      exact Bool.noConfusion hbt
    · rw [zx_c ht hk]
      exact hp
  · rw [if_neg hbt] at hp
    exact br_t ((zb_bit hk).mpr (zb_f.mp hbt)) ⟨zi_in ht, xw_ver hk hb (zBas_B hb t) hp⟩
theorem xw_look {t lo hi : Nat} (ht : t < 32) (hkp : kp ≤ Ml) (hM : Ml ≤ 256)
    (h0 : zf rs ws t lo hi = 0 → rost 1 (nI T, nI K, nI Wl, nI Ml, nI cc, nI bg, nI kp, nI hz, nI os, oc, bs, zS S, zS B, zS C, rs, ws, zS FO, ea, wr, zS L, od))
    (h1 : ¬ zf rs ws t lo hi = 0 → kp + zp (zf rs ws t lo hi) ≤ Ml → rost 1 (nI T, nI K, nI Wl, nI Ml, nI cc, nI bg, nI (kp + zp (zf rs ws t lo hi)), nI hz, nI os, oc, bs, zS S, zS B, zS C, upd rs t (rs t ||| zf rs ws t lo hi), ws, zS FO, ea, wr, zS L, od))
    (h2 : ¬ zf rs ws t lo hi = 0 → Ml < kp + zp (zf rs ws t lo hi) → rost 0 (nI T, nI K, nI Wl, nI Ml, nI cc, nI bg, nI kp, nI hz, nI os, oc, bs, zS S, zS B, zS C, rs, ws, zS FO, ea, wr, zS L, od)) : wpX_look rost (nI T, nI K, nI Wl, nI Ml, nI cc, nI bg, nI kp, nI hz, nI os, oc, bs, zS S, zS B, zS C, rs, ws, zS FO, ea, wr, zS L, od) (nI t) (nI lo) (nI hi) := by
  have hz := zp_le (zf rs ws t lo hi)
  have e : (nI t).toNatClampNeg = t := nI_clamp (by omega)
  refine And.intro (zi_in ht) ⟨zi_in ht, nm_r (e' := zf rs ws t lo hi) (by rw [e]; rfl) (br_c h0 fun hn => ?_)⟩
  refine xw_size ?_
  rw [e, nI_add]
  refine zi (nI_leI (by omega) (by omega)) (fun h => ⟨zi_in ht, zi_in ht, nm_e (nm_e (h1 hn h))⟩) (fun h => h2 hn (by omega))
theorem xw_clear {t : Nat} (ht : t < 32) (hp : qost (nI T, nI K, nI Wl, nI Ml, nI cc, nI bg, nI kp, nI hz, nI os, oc, bs, zS (zU S t 0), zS (zU B t 0), zS (zU C t 0), upd rs t 0, upd ws t 0, zS (zU FO t 0), upd ea t 0, wr, zS L, od)) : wpX_clearTransaction qost (nI T, nI K, nI Wl, nI Ml, nI cc, nI bg, nI kp, nI hz, nI os, oc, bs, zS S, zS B, zS C, rs, ws, zS FO, ea, wr, zS L, od) (nI t) := by
  have e : (nI t).toNatClampNeg = t := nI_clamp (by omega)
  have i := zi_in ht
  have z : ∀ f : Nat → Nat, upd (zS f) (nI t).toNatClampNeg 0 = zS (zU f t 0) := fun f => zS_ut (by omega) rfl rfl
  have y : ∀ f : Nat → Int32, upd f (nI t).toNatClampNeg 0 = upd f t 0 := fun f => by rw [e]
  exact And.intro i (nm_r (z S) ⟨i, nm_r (z B) ⟨i, nm_r (z C) ⟨i, nm_r (y rs) ⟨i, nm_r (y ws) ⟨i, nm_r (z FO) ⟨i, nm_r (y ea) hp⟩⟩⟩⟩⟩⟩)
end
end
section
/-! the component's walks, second part: conflicts and verdicts -/
section
variable {T K Wl Ml cc bg kp hz os : Nat} {oc : Int32} {bs : Nat → Int32} {S B C : Nat → Nat} {rs ws : Nat → Int32} {FO : Nat → Nat} {ea wr : Nat → Int32} {L : Nat → Nat} {od : Nat → Int32} {rd wt la pl : Nat → Int32}
variable {post : Int32 → Prop} {qost : SX → Prop} {rost : Int32 → SX → Prop}
theorem xw_lost_l {t : Nat} (ht : t < 32) (hb : zBas T cc bg S B C L)
    (h1 : ∀ c, B t < c → c ≤ cc → ¬ (ws (L c) &&& ws t) = 0 → post 1) :
    ∀ d i, i + d = cc + 1 → B t < i → (∀ c, B t < c → c < i → (ws (L c) &&& ws t) = 0) → ((∀ c, B t < c → c ≤ cc → (ws (L c) &&& ws t) = 0) → post 0) → wX_isLost_9 post (nI t) (nI T) (nI K) (nI Wl) (nI Ml) (nI cc) (nI bg) (nI kp) (nI hz) (nI os) oc bs (zS S) (zS B) (zS C) rs ws (zS FO) ea wr (zS L) od (d + 1) (nI i) := by
  have hT := zBas_T hb
  have hcc := zBas_cc hb
  intro d
  induction d with
  | zero =>
    intro i hi hB hpr h0
    exact br_t (nI_lt (by omega) (by omega)) (h0 fun c h2 h3 => hpr c h2 (by omega))
  | succ d ih =>
    intro i hi hB hpr h0
    have hL := zBas_L32 hb (c := i) (by omega) (by omega)
    refine br_f (nI_nlt (by omega) (by omega)) ⟨vp_in_nI (by omega) (by decide), nm_r (e' := nI (L i)) (zS_c (by omega)) ⟨zi_in hL, zi_in ht, ?_⟩⟩
    rw [nI_clamp (show L i < 2 ^ 31 by omega), nI_clamp (show t < 2 ^ 31 by omega)]
    refine br_c (fun z => nm_r (nI_1 i) (ih (i + 1) (by omega) (by omega) (fun c h2 h3 => ?_) h0)) (fun z => h1 i hB (by omega) z)
    by_cases e : c = i
    · rw [e]; exact z
    · exact hpr c h2 (by omega)
theorem xw_lost {t : Nat} (ht : t < 32) (hb : zBas T cc bg S B C L)
    (h1 : zLost S B C ws t → post 1) (h0 : ¬ zLost S B C ws t → post 0) : wpX_isLost post (nI T, nI K, nI Wl, nI Ml, nI cc, nI bg, nI kp, nI hz, nI os, oc, bs, zS S, zS B, zS C, rs, ws, zS FO, ea, wr, zS L, od) (nI t) := by
  have hB := zBas_B hb t
  have hT := zBas_T hb
  have hcc := zBas_cc hb
  refine And.intro (zi_in ht) (nm_r (e' := nI (B t + 1)) (by rw [zS_c (show t < 2 ^ 31 by omega), nI_1]) ⟨cc - B t + 1, xw_lost_l ht hb (fun c h2 h3 h4 => h1 ?_) _ _ (by omega) (by omega) (fun c h2 h3 => by omega) (fun hz => h0 ?_)⟩)
  · have ⟨a, b⟩ := zBas_L hb (c := c) (by omega) h3
    exact ⟨L c, a, by omega, h4⟩
  · intro ⟨x, h2, h3, h4⟩
    have ⟨_, h6, _, h8⟩ := zBas_C hb h2
    exact h4 (h8 ▸ hz (C x) h3 h6)
theorem xw_lo_l {t : Nat} (ht : t < 32) (hb : zBas T cc bg S B C L) (h : ∀ n, zLO cc B L rs ws t n → post (nI n)) :
    ∀ d i, i + d = cc + 1 → B t < i → (∀ c, B t < c → c < i → (rs t &&& ws (L c)) = 0) → wX_leastOut_9 post (nI t) (nI T) (nI K) (nI Wl) (nI Ml) (nI cc) (nI bg) (nI kp) (nI hz) (nI os) oc bs (zS S) (zS B) (zS C) rs ws (zS FO) ea wr (zS L) od (d + 1) (nI i) := by
  have hT := zBas_T hb
  have hcc := zBas_cc hb
  intro d
  induction d with
  | zero =>
    intro i hi hB hpr
    exact br_t (nI_lt (by omega) (by omega)) (h 0 (Or.inl ⟨rfl, fun c h2 h3 => hpr c h2 (by omega)⟩))
  | succ d ih =>
    intro i hi hB hpr
    have hL := zBas_L32 hb (c := i) (by omega) (by omega)
    refine br_f (nI_nlt (by omega) (by omega)) ⟨vp_in_nI (by omega) (by decide), nm_r (e' := nI (L i)) (zS_c (by omega)) ⟨zi_in ht, zi_in hL, ?_⟩⟩
    rw [nI_clamp (show L i < 2 ^ 31 by omega), nI_clamp (show t < 2 ^ 31 by omega)]
    refine br_c (fun z => nm_r (nI_1 i) (ih (i + 1) (by omega) (by omega) (fun c h2 h3 => ?_))) (fun z => h i (Or.inr ⟨hB, by omega, z, hpr⟩))
    by_cases e : c = i
    · rw [e]; exact z
    · exact hpr c h2 (by omega)
theorem xw_lo {t : Nat} (ht : t < 32) (hb : zBas T cc bg S B C L) (h : ∀ n, zLO cc B L rs ws t n → post (nI n)) : wpX_leastOut post (nI T, nI K, nI Wl, nI Ml, nI cc, nI bg, nI kp, nI hz, nI os, oc, bs, zS S, zS B, zS C, rs, ws, zS FO, ea, wr, zS L, od) (nI t) := by
  have hB := zBas_B hb t
  have hT := zBas_T hb
  have hcc := zBas_cc hb
  exact And.intro (zi_in ht) (nm_r (e' := nI (B t + 1)) (by rw [zS_c (show t < 2 ^ 31 by omega), nI_1]) ⟨cc - B t + 1, xw_lo_l ht hb h _ _ (by omega) (by omega) (fun c h2 h3 => by omega)⟩)
/-- the danger as the first: what X looks for -/
def zDF (cc : Nat) (B : Nat → Nat) (rs ws : Nat → Int32) (FO L : Nat → Nat) (t c : Nat) : Prop :=
  B t < c ∧ c ≤ cc ∧ FO (L c) ≠ 0 ∧ ¬ (rs t &&& ws (L c)) = 0 ∧ (¬ ws t = 0 ∨ FO (L c) ≤ B t)
theorem xw_df_l {t : Nat} {z0 : Int32} (hz0 : z0 = 0 ↔ ¬ ws t = 0) (ht : t < 32) (hb : zBas T cc bg S B C L) (hFO : ∀ c, 1 ≤ c → c ≤ cc → FO (L c) ≤ 32)
    (h1 : ∀ c, zDF cc B rs ws FO L t c → post 1) (h0 : (∀ c, ¬ zDF cc B rs ws FO L t c) → post 0) :
    ∀ d i, i + d = cc + 1 → B t < i → (∀ c, c < i → ¬ zDF cc B rs ws FO L t c) → wX_isDangerousFirst_24 post (nI t) z0 (nI T) (nI K) (nI Wl) (nI Ml) (nI cc) (nI bg) (nI kp) (nI hz) (nI os) oc bs (zS S) (zS B) (zS C) rs ws (zS FO) ea wr (zS L) od (d + 1) (nI i) := by
  have hT := zBas_T hb
  have hcc := zBas_cc hb
  have hBt := zBas_B hb t
  intro d
  induction d with
  | zero =>
    intro i hi hB hpr
    refine br_t (nI_lt (by omega) (by omega)) (h0 fun c h => ?_)
    exact hpr c (by have := h.2.1; omega) h
  | succ d ih =>
    intro i hi hB hpr
    have hL := zBas_L32 hb (c := i) (by omega) (by omega)
    have hF := hFO i (by omega) (by omega)
    have go : ¬ zDF cc B rs ws FO L t i → ∀ x, x = nI i + 1 → wX_isDangerousFirst_24 post (nI t) z0 (nI T) (nI K) (nI Wl) (nI Ml) (nI cc) (nI bg) (nI kp) (nI hz) (nI os) oc bs (zS S) (zS B) (zS C) rs ws (zS FO) ea wr (zS L) od (d + 1) x :=
      fun hn => nm_r (nI_1 i) (ih (i + 1) (by omega) (by omega) (fun c hc hd => by
        by_cases e : c = i
        · subst e; exact hn hd
        · exact hpr c (by omega) hd))
    refine br_f (nI_nlt (by omega) (by omega)) ⟨vp_in_nI (by omega) (by decide), nm_r (e' := nI (L i)) (zS_c (by omega)) ⟨zi_in hL, nm_r (e' := nI (FO (L i))) (zS_c (by omega)) ?_⟩⟩
    rw [nI_clamp (show L i < 2 ^ 31 by omega), zS_c (f := B) (show t < 2 ^ 31 by omega), nI_clamp (show t < 2 ^ 31 by omega)]
    refine zi (nI_eq (b := 0) (by omega) (by decide)) (fun z => go fun q => q.2.2.1 z) (fun z => ⟨zi_in ht, zi_in hL, ?_⟩)
    refine br_c (fun z2 => go fun q => q.2.2.2.1 z2) (fun z2 => ?_)
    refine br_c (fun z3 => h1 i ⟨hB, by omega, z, z2, Or.inl (hz0.mp z3)⟩) (fun z3 => ⟨zi_in ht, ?_⟩)
    refine zi (nI_ltI (by omega) (by omega)) (fun z4 => go fun q => ?_) (fun z4 => h1 i ⟨hB, by omega, z, z2, Or.inr (by omega)⟩)
    rcases q.2.2.2.2 with q1 | q1
    · exact z3 (hz0.mpr q1)
    · omega
theorem xw_df {t : Nat} (ht : t < 32) (hb : zBas T cc bg S B C L) (hFO : ∀ c, 1 ≤ c → c ≤ cc → FO (L c) ≤ 32)
    (h1 : ∀ c, zDF cc B rs ws FO L t c → post 1) (h0 : (∀ c, ¬ zDF cc B rs ws FO L t c) → post 0) : wpX_isDangerousFirst post (nI T, nI K, nI Wl, nI Ml, nI cc, nI bg, nI kp, nI hz, nI os, oc, bs, zS S, zS B, zS C, rs, ws, zS FO, ea, wr, zS L, od) (nI t) := by
  have hB := zBas_B hb t
  have hT := zBas_T hb
  have hcc := zBas_cc hb
  have e : (nI t).toNatClampNeg = t := nI_clamp (by omega)
  have go : ∀ z0 : Int32, (z0 = 0 ↔ ¬ ws t = 0) → wX_isDangerousFirst_14 post (nI t) z0 (nI T) (nI K) (nI Wl) (nI Ml) (nI cc) (nI bg) (nI kp) (nI hz) (nI os) oc bs (zS S) (zS B) (zS C) rs ws (zS FO) ea wr (zS L) od := fun z0 hz0 =>
    And.intro (zi_in ht) (nm_r (e' := nI (B t + 1)) (by rw [zS_c (show t < 2 ^ 31 by omega), nI_1]) ⟨cc - B t + 1, xw_df_l hz0 ht hb hFO h1 h0 _ _ (by omega) (by omega) (fun c h2 h3 => by have := h3.1; omega)⟩)
  refine And.intro (zi_in ht) ?_
  rw [e]
  exact br_c (fun z => go 1 ⟨fun q => absurd q (by decide), fun q => absurd z q⟩) (fun z => go 0 ⟨fun _ => z, fun _ => rfl⟩)
/-- the danger as the middle: what X looks for -/
def zDM (cc : Nat) (B : Nat → Nat) (rs ws : Nat → Int32) (L : Nat → Nat) (t n c : Nat) : Prop :=
  n ≤ c ∧ c ≤ cc ∧ ¬ (rs (L c) &&& ws t) = 0 ∧ (¬ ws (L c) = 0 ∨ n ≤ B (L c))
theorem xw_dm_l {t n : Nat} (hn : 1 ≤ n) (hn2 : n ≤ cc) (ht : t < 32) (hb : zBas T cc bg S B C L)
    (h1 : ∀ c, zDM cc B rs ws L t n c → post 1) (h0 : (∀ c, ¬ zDM cc B rs ws L t n c) → post 0) :
    ∀ d i, i + d = cc + 1 → n ≤ i → (∀ c, c < i → ¬ zDM cc B rs ws L t n c) → wX_isDangerousMiddle_14 post (nI t) (nI n) (nI T) (nI K) (nI Wl) (nI Ml) (nI cc) (nI bg) (nI kp) (nI hz) (nI os) oc bs (zS S) (zS B) (zS C) rs ws (zS FO) ea wr (zS L) od (d + 1) (nI i) := by
  have hT := zBas_T hb
  have hcc := zBas_cc hb
  intro d
  induction d with
  | zero =>
    intro i hi hB hpr
    refine br_t (nI_lt (by omega) (by omega)) (h0 fun c h => ?_)
    exact hpr c (by have := h.2.1; omega) h
  | succ d ih =>
    intro i hi hB hpr
    have hL := zBas_L32 hb (c := i) (by omega) (by omega)
    have hBL := zBas_B hb (L i)
    have go : ¬ zDM cc B rs ws L t n i → ∀ x, x = nI i + 1 → wX_isDangerousMiddle_14 post (nI t) (nI n) (nI T) (nI K) (nI Wl) (nI Ml) (nI cc) (nI bg) (nI kp) (nI hz) (nI os) oc bs (zS S) (zS B) (zS C) rs ws (zS FO) ea wr (zS L) od (d + 1) x :=
      fun hn => nm_r (nI_1 i) (ih (i + 1) (by omega) (by omega) (fun c hc hd => by
        by_cases e : c = i
        · subst e; exact hn hd
        · exact hpr c (by omega) hd))
    refine br_f (nI_nlt (by omega) (by omega)) ⟨vp_in_nI (by omega) (by decide), nm_r (e' := nI (L i)) (zS_c (by omega)) ⟨zi_in hL, zi_in ht, ?_⟩⟩
    rw [zS_c (f := B) (show L i < 2 ^ 31 by omega), nI_clamp (show L i < 2 ^ 31 by omega), nI_clamp (show t < 2 ^ 31 by omega)]
    refine br_c (fun z => go fun q => q.2.2.1 z) (fun z => ⟨zi_in hL, ?_⟩)
    refine br_c (fun z2 => ⟨zi_in hL, ?_⟩) (fun z2 => h1 i ⟨hB, by omega, z, Or.inl z2⟩)
    refine zi (nI_ltI (by omega) (by omega)) (fun z4 => go fun q => ?_) (fun z4 => h1 i ⟨hB, by omega, z, Or.inr (by omega)⟩)
    rcases q.2.2.2 with q1 | q1
    · exact q1 z2
    · omega
theorem xw_dm {t : Nat} (ht : t < 32) (hb : zBas T cc bg S B C L)
    (h1 : ∀ n c, n ≠ 0 → zLO cc B L rs ws t n → zDM cc B rs ws L t n c → post 1)
    (h0 : (∀ n, zLO cc B L rs ws t n → n = 0 ∨ ∀ c, ¬ zDM cc B rs ws L t n c) → post 0) : wpX_isDangerousMiddle post (nI T, nI K, nI Wl, nI Ml, nI cc, nI bg, nI kp, nI hz, nI os, oc, bs, zS S, zS B, zS C, rs, ws, zS FO, ea, wr, zS L, od) (nI t) := by
  have hT := zBas_T hb
  have hcc := zBas_cc hb
  have un : ∀ n m, zLO cc B L rs ws t n → zLO cc B L rs ws t m → n = m := by
    intro n m hn hm
    rcases hn with ⟨rfl, a⟩ | ⟨a1, a2, a3, a4⟩
    · rcases hm with ⟨rfl, b⟩ | ⟨b1, b2, b3, b4⟩
      · rfl
      · exact absurd (a m b1 b2) b3
    · rcases hm with ⟨rfl, b⟩ | ⟨b1, b2, b3, b4⟩
      · exact absurd (b n a1 a2) a3
      · rcases Nat.lt_trichotomy n m with q | q | q
        · exact absurd (b4 n a1 q) a3
        · exact q
        · exact absurd (a4 m b1 q) b3
  have go : ∀ n, zLO cc B L rs ws t n → ((nI n = 0 → post 0) ∧ (¬ nI n = 0 → ∃ n14, wX_isDangerousMiddle_14 post (nI t) (nI n) (nI T) (nI K) (nI Wl) (nI Ml) (nI cc) (nI bg) (nI kp) (nI hz) (nI os) oc bs (zS S) (zS B) (zS C) rs ws (zS FO) ea wr (zS L) od n14 (nI n))) := by
    intro n hn
    have hn2 : n ≤ cc := by rcases hn with ⟨rfl, _⟩ | ⟨_, a, _⟩ <;> omega
    refine zi (nI_eq (b := 0) (by omega) (by decide)) (fun z => h0 fun m hm => Or.inl ((un m n hm hn).trans z)) (fun z => ⟨cc + 1 - n + 1, xw_dm_l (by omega) hn2 ht hb (fun c hc => h1 n c z hn hc) (fun hc => h0 fun m hm => Or.inr ?_) _ n (by omega) (Nat.le_refl n) (fun c h2 h3 => by have := h3.1; omega)⟩)
    rw [un m n hm hn]; exact hc
  unfold wpX_isDangerousMiddle
  exact xw_lo (post := fun r => ((r = 0 → post 0) ∧ (¬ r = 0 → ∃ n14, wX_isDangerousMiddle_14 post (nI t) r (nI T) (nI K) (nI Wl) (nI Ml) (nI cc) (nI bg) (nI kp) (nI hz) (nI os) oc bs (zS S) (zS B) (zS C) rs ws (zS FO) ea wr (zS L) od n14 r))) ht hb go
theorem xw_judge {t : Nat} (ht : t < 32) (hb : zBas T cc bg S B C L) (hFO : ∀ c, 1 ≤ c → c ≤ cc → FO (L c) ≤ 32)
    (h5 : zLost S B C ws t → post (-5))
    (h6 : ¬ zLost S B C ws t → ((∃ c, zDF cc B rs ws FO L t c) ∨ ∃ n c, n ≠ 0 ∧ zLO cc B L rs ws t n ∧ zDM cc B rs ws L t n c) → post (-6))
    (h0 : ¬ zLost S B C ws t → (¬ ∃ c, zDF cc B rs ws FO L t c) → (¬ ∃ n c, n ≠ 0 ∧ zLO cc B L rs ws t n ∧ zDM cc B rs ws L t n c) → post 0) : wpX_judge post (nI T, nI K, nI Wl, nI Ml, nI cc, nI bg, nI kp, nI hz, nI os, oc, bs, zS S, zS B, zS C, rs, ws, zS FO, ea, wr, zS L, od) (nI t) := by
  unfold wpX_judge
  refine xw_lost ht hb (fun h => br_f (by decide) (h5 h)) (fun h => br_t rfl ?_)
  refine xw_df ht hb hFO (fun c hc => br_f (by decide) (h6 h (Or.inl ⟨c, hc⟩))) (fun hc => br_t rfl ?_)
  refine xw_dm ht hb (fun n c h1 h2 h3 => br_f (by decide) (h6 h (Or.inr ⟨n, c, h1, h2, h3⟩))) (fun h1 => br_t rfl (h0 h (fun ⟨c, q⟩ => hc c q) (fun ⟨n, c, q1, q2, q3⟩ => ?_)))
  rcases h1 n q2 with q | q
  · exact q1 q
  · exact q c q3
theorem xw_ended {x y : Nat} (hx : x < 32) (hy : y < 32) (hb : zBas T cc bg S B C L)
    (h1 : S x = 2 ∧ C x ≤ B y → post 1) (h0 : ¬ (S x = 2 ∧ C x ≤ B y) → post 0) : wpX_endedBefore post (nI T, nI K, nI Wl, nI Ml, nI cc, nI bg, nI kp, nI hz, nI os, oc, bs, zS S, zS B, zS C, rs, ws, zS FO, ea, wr, zS L, od) (nI x) (nI y) := by
  have hT := zBas_T hb
  have hcc := zBas_cc hb
  have hC := zBas_Cl hb x
  have hB := zBas_B hb y
  refine And.intro (zi_in hx) (zi (zS_2 hx (zBas_S hb x)) (fun z => ⟨zi_in hx, zi_in hy, ?_⟩) (fun z => h0 fun q => z q.1))
  rw [zS_c (f := C) (show x < 2 ^ 31 by omega), zS_c (f := B) (show y < 2 ^ 31 by omega)]
  exact zi (nI_ltI (by omega) (by omega)) (fun q => h0 fun w => by omega) (fun q => h1 ⟨z, by omega⟩)
theorem xw_live {x : Nat} (hx : x < 32) (hb : zBas T cc bg S B C L)
    (h1 : S x = 1 ∨ S x = 2 → post 1) (h0 : ¬ (S x = 1 ∨ S x = 2) → post 0) : wpX_isLive post (nI T, nI K, nI Wl, nI Ml, nI cc, nI bg, nI kp, nI hz, nI os, oc, bs, zS S, zS B, zS C, rs, ws, zS FO, ea, wr, zS L, od) (nI x) := by
  refine And.intro (zi_in hx) (zi (zS_1 hx (zBas_S hb x)) (fun z => h1 (Or.inl z)) (fun z => ⟨zi_in hx, ?_⟩))
  exact zi (zS_2 hx (zBas_S hb x)) (fun z2 => h1 (Or.inr z2)) (fun z2 => h0 fun q => q.elim z z2)
theorem xw_conf {a b : Nat} (ha : a < 32) (hb' : b < 32) (hb : zBas T cc bg S B C L)
    (h1 : zCfl S B C rs ws a b → post 1) (h0 : ¬ zCfl S B C rs ws a b → post 0) : wpX_conflicts post (nI T, nI K, nI Wl, nI Ml, nI cc, nI bg, nI kp, nI hz, nI os, oc, bs, zS S, zS B, zS C, rs, ws, zS FO, ea, wr, zS L, od) (nI a) (nI b) := by
  have ea' : (nI a).toNatClampNeg = a := nI_clamp (by omega)
  have eb' : (nI b).toNatClampNeg = b := nI_clamp (by omega)
  refine zi (nI_eq (by omega) (by omega)) (fun z => h0 fun q => q.1 z) (fun z => ?_)
  refine xw_live ha hb (fun h2 => br_f (by decide) ?_) (fun h2 => br_t rfl (h0 fun q => h2 q.2.1))
  refine xw_live hb' hb (fun h3 => br_f (by decide) ⟨zi_in ha, zi_in hb', ?_⟩) (fun h3 => br_t rfl (h0 fun q => h3 q.2.2.1))
  rw [ea', eb']
  refine br_c (fun h4 => h0 fun q => q.2.2.2.1 h4) (fun h4 => ?_)
  refine xw_ended ha hb' hb (fun h5 => br_f (by decide) (h0 fun q => q.2.2.2.2.1 h5)) (fun h5 => br_t rfl ?_)
  exact xw_ended hb' ha hb (fun h6 => br_f (by decide) (h0 fun q => q.2.2.2.2.2 h6)) (fun h6 => br_t rfl (h1 ⟨z, h2, h3, h4, h5, h6⟩))
theorem xw_keeps {t : Nat} (ht : t < 32) (hh : hz ≤ 32) (hb : zBas T cc bg S B C L)
    (h1 : S t = 1 ∨ (S t = 2 ∧ hz < C t) → post 1) (h0 : ¬ (S t = 1 ∨ (S t = 2 ∧ hz < C t)) → post 0) : wpX_keepsMarks post (nI T, nI K, nI Wl, nI Ml, nI cc, nI bg, nI kp, nI hz, nI os, oc, bs, zS S, zS B, zS C, rs, ws, zS FO, ea, wr, zS L, od) (nI t) := by
  have hT := zBas_T hb
  have hcc := zBas_cc hb
  have hC := zBas_Cl hb t
  refine And.intro (zi_in ht) (zi (zS_1 ht (zBas_S hb t)) (fun z => h1 (Or.inl z)) (fun z => ⟨zi_in ht, ?_⟩))
  refine zi (zS_2 ht (zBas_S hb t)) (fun z2 => ⟨zi_in ht, ?_⟩) (fun z2 => h0 fun q => q.elim z (fun w => z2 w.1))
  rw [zS_c (f := C) (show t < 2 ^ 31 by omega)]
  exact zi (nI_leI (by omega) (by omega)) (fun q => h0 fun w => w.elim z (fun w => by omega)) (fun q => h1 (Or.inr ⟨z2, by omega⟩))
end
end
section
/-! the component's walks, third part: the horizon, the ends of transactions, the serial order -/
section
variable {T K Wl Ml cc bg kp hz os : Nat} {oc : Int32} {bs : Nat → Int32} {S B C : Nat → Nat} {rs ws : Nat → Int32} {FO : Nat → Nat} {ea wr : Nat → Int32} {L : Nat → Nat} {od : Nat → Int32} {rd wt la pl : Nat → Int32}
variable {post : Int32 → Prop} {qost : SX → Prop} {rost : Int32 → SX → Prop}
theorem zKS_step {h : Nat} (hb : zBas T cc bg S B C L) (hh : h + 1 ≤ cc) : zKS T S C rs h = zKS T S C rs (h + 1) + zp (rs (L (h + 1))) := by
  have ⟨h1, h2⟩ := zBas_L hb (c := h + 1) (by omega) hh
  have ht := zBas_ltT hb (t := L (h + 1)) (by omega)
  have e := zm_upd (f := zKf S C rs h) (g := zKf S C rs (h + 1)) (t := L (h + 1)) T ht (fun k _ hn => by
    show (if S k = 1 ∨ (S k = 2 ∧ h < C k) then zp (rs k) else 0) = (if S k = 1 ∨ (S k = 2 ∧ h + 1 < C k) then zp (rs k) else 0)
    by_cases e1 : S k = 1
    · rw [if_pos (Or.inl e1), if_pos (Or.inl e1)]
    · by_cases e2 : S k = 2 ∧ h < C k
      · have : C k ≠ h + 1 := fun z => hn (by rw [← (zBas_C hb e2.1).2.2.2, z])
        rw [if_pos (Or.inr e2), if_pos (Or.inr ⟨e2.1, by omega⟩)]
      · rw [if_neg (fun z => z.elim e1 e2), if_neg (fun z => z.elim e1 (fun w => e2 ⟨w.1, by omega⟩))])
  have e1 : zKf S C rs h (L (h + 1)) = zp (rs (L (h + 1))) := if_pos (Or.inr ⟨h1, by omega⟩)
  have e2 : zKf S C rs (h + 1) (L (h + 1)) = 0 := if_neg (fun z => by omega)
  unfold zKS
  omega
theorem xw_adv48 {tg : Nat} (hb : zBas T cc bg S B C L) (htg : tg ≤ cc) (hp : qost (nI T, nI K, nI Wl, nI Ml, nI cc, nI bg, nI (zKS T S C rs tg), nI tg, nI os, oc, bs, zS S, zS B, zS C, rs, ws, zS FO, ea, wr, zS L, od)) :
    ∀ d j, j + d = tg → wX_advanceHorizon_48 qost (nI tg) (nI T) (nI K) (nI Wl) (nI Ml) (nI cc) (nI bg) (nI hz) (nI os) oc bs (zS S) (zS B) (zS C) rs ws (zS FO) ea wr (zS L) od (d + 1) (nI (j + 1)) (nI (zKS T S C rs j)) := by
  have hT := zBas_T hb
  have hcc := zBas_cc hb
  intro d
  induction d with
  | zero =>
    intro j hj
    obtain rfl : j = tg := by omega
    exact br_t (nI_lt (by omega) (by omega)) hp
  | succ d ih =>
    intro j hj
    have hL := zBas_L32 hb (c := j + 1) (by omega) (by omega)
    refine br_f (nI_nlt (by omega) (by omega)) ⟨vp_in_nI (by omega) (by decide), nm_r (e' := nI (L (j + 1))) (zS_c (by omega)) ⟨zi_in hL, ?_⟩⟩
    rw [nI_clamp (show L (j + 1) < 2 ^ 31 by omega)]
    refine xw_size (nm_r (e' := nI (zKS T S C rs (j + 1))) ?_ (nm_r (nI_1 (j + 1)) (ih (j + 1) (by omega))))
    have e := zKS_step (rs := rs) hb (show j + 1 ≤ cc by omega)
    rw [pk_sub (by omega)]
    exact congrArg nI (by omega)
theorem xw_adv7 (hb : zBas T cc bg S B C L) (hh0 : hz ≤ cc) (hh : ∀ t, S t = 1 → hz ≤ B t) (hk : kp = zKS T S C rs hz)
    (hp : ∀ h, hz ≤ h → zHz cc S B h → qost (nI T, nI K, nI Wl, nI Ml, nI cc, nI bg, nI (zKS T S C rs h), nI h, nI os, oc, bs, zS S, zS B, zS C, rs, ws, zS FO, ea, wr, zS L, od)) :
    ∀ d i, i + d = bg → (∀ s, s < i → S s ≠ 1) → wX_advanceHorizon_7 qost (nI cc) (nI T) (nI K) (nI Wl) (nI Ml) (nI cc) (nI bg) (nI kp) (nI hz) (nI os) oc bs (zS S) (zS B) (zS C) rs ws (zS FO) ea wr (zS L) od (d + 1) (nI i) := by
  have hT := zBas_T hb
  have hcc := zBas_cc hb
  have hbg := zBas_bg hb
  have go : ∀ h, h ≤ cc → hz ≤ h → zHz cc S B h → ∀ x, x = nI hz + 1 → ∃ n48, wX_advanceHorizon_48 qost (nI h) (nI T) (nI K) (nI Wl) (nI Ml) (nI cc) (nI bg) (nI hz) (nI os) oc bs (zS S) (zS B) (zS C) rs ws (zS FO) ea wr (zS L) od n48 x (nI kp) :=
    fun h h1 h2 h3 => nm_r (nI_1 hz) ⟨h - hz + 1, by rw [hk]; exact xw_adv48 hb h1 (hp h h2 h3) _ _ (by omega)⟩
  intro d
  induction d with
  | zero =>
    intro i hi hn
    refine br_t (nI_le (by omega) (by omega)) (go cc (Nat.le_refl cc) hh0 ?_)
    have hno : ∀ t, S t ≠ 1 := fun t z => hn t (by have := zBas_lt hb (t := t) (by omega); omega) z
    exact ⟨Nat.le_refl cc, fun t z => absurd z (hno t), Or.inr ⟨hno, rfl⟩⟩
  | succ d ih =>
    intro i hi hn
    have hS := zBas_S hb i
    refine br_f (nI_ge (by omega) (by omega)) ⟨zi_in (by omega), zi (zS_1 (by omega) hS) (fun z => ⟨zi_in (by omega), nm_r (e' := nI (B i)) (zS_c (by omega)) (go (B i) (zBas_B hb i) (hh i z) ?_)⟩) (fun z => nm_r (nI_1 i) (ih (i + 1) (by omega) (fun s hs => ?_)))⟩
    · refine ⟨zBas_B hb i, fun t ht => ?_, Or.inl ⟨i, z, rfl⟩⟩
      refine hb.2.2.2.2.1 i t ?_ (zBas_lt hb (by omega))
      refine Classical.byContradiction fun w => hn t (by omega) ht
    · by_cases e : s = i
      · subst e; exact z
      · exact hn s (by omega)
theorem xw_adv (hb : zBas T cc bg S B C L) (hh0 : hz ≤ cc) (hh : ∀ t, S t = 1 → hz ≤ B t) (hk : kp = zKS T S C rs hz)
    (hp : ∀ h, hz ≤ h → zHz cc S B h → qost (nI T, nI K, nI Wl, nI Ml, nI cc, nI bg, nI (zKS T S C rs h), nI h, nI os, oc, bs, zS S, zS B, zS C, rs, ws, zS FO, ea, wr, zS L, od)) : wpX_advanceHorizon qost (nI T, nI K, nI Wl, nI Ml, nI cc, nI bg, nI kp, nI hz, nI os, oc, bs, zS S, zS B, zS C, rs, ws, zS FO, ea, wr, zS L, od) :=
  Exists.intro (bg + 1) (xw_adv7 hb hh0 hh hk hp bg 0 (by omega) (fun s hs => absurd hs (Nat.not_lt_zero s)))
theorem zBas_drop {t : Nat} (hb : zBas T cc bg S B C L) (h : S t = 1) : zBas T cc bg (zU S t 3) B C L := by
  have e : ∀ x, zU S t 3 x = 2 ↔ S x = 2 := by
    intro x
    by_cases q : x = t
    · subst q; rw [zU_s, h]; decide
    · rw [zU_n q]
  have ht := zBas_lt hb (t := t) (by omega)
  obtain ⟨⟨a1, a2, a3⟩, b, c, d, f, g, i, j⟩ := hb
  refine ⟨⟨a1, a2, ?_⟩, fun x => ⟨?_, (b x).2⟩, fun x hx => ?_, fun x hx => ?_, f, fun x hx => g x ((e x).mp hx), fun x hx => i x (fun z => hx ((e x).mpr z)), fun c h1 h2 => ⟨(e _).mpr (j c h1 h2).1, (j c h1 h2).2⟩⟩
  · rw [← a3]
    refine zm_congr T (fun k _ => ?_)
    show (if zU S t 3 k = 2 then 1 else 0) = (if S k = 2 then 1 else 0)
    by_cases q : S k = 2
    · rw [if_pos q, if_pos ((e k).mpr q)]
    · rw [if_neg q, if_neg (fun z => q ((e k).mp z))]
  · by_cases q : x = t
    · subst q; rw [zU_s]; decide
    · rw [zU_n q]; exact (b x).1
  · by_cases q : x = t
    · subst q; rw [zU_s]; decide
    · rw [zU_n q]; exact c x hx
  · rw [zU_n (by omega)]; exact d x hx
theorem zKS_drop {t : Nat} (ht : t < T) (h : S t = 1) : zKS T S C rs hz = zKS T (zU S t 3) C (upd rs t 0) hz + zp (rs t) := by
  have e := zm_upd (f := zKf S C rs hz) (g := zKf (zU S t 3) C (upd rs t 0) hz) (t := t) T ht (fun k _ hn => by
    show (if S k = 1 ∨ (S k = 2 ∧ hz < C k) then zp (rs k) else 0) = (if zU S t 3 k = 1 ∨ (zU S t 3 k = 2 ∧ hz < C k) then zp (upd rs t 0 k) else 0)
    rw [zU_n hn, pk_un hn])
  have e1 : zKf S C rs hz t = zp (rs t) := if_pos (Or.inl h)
  have e2 : zKf (zU S t 3) C (upd rs t 0) hz t = 0 := if_neg (by rw [zU_s]; omega)
  unfold zKS
  omega
theorem xw_drop {t : Nat} (hS : S t = 1) (hb : zBas T cc bg S B C L) (hH : zHz cc S B hz) (hk : kp = zKS T S C rs hz)
    (hp : ∀ h, hz ≤ h → zHz cc (zU S t 3) B h → qost (nI T, nI K, nI Wl, nI Ml, nI cc, nI bg, nI (zKS T (zU S t 3) C (upd rs t 0) h), nI h, nI os, oc, bs, zS (zU S t 3), zS B, zS C, upd rs t 0, upd ws t 0, zS FO, ea, wr, zS L, od)) : wpX_drop qost (nI T, nI K, nI Wl, nI Ml, nI cc, nI bg, nI kp, nI hz, nI os, oc, bs, zS S, zS B, zS C, rs, ws, zS FO, ea, wr, zS L, od) (nI t) := by
  have hT := zBas_T hb
  have htT := zBas_ltT hb (t := t) (by omega)
  have ht : t < 32 := by omega
  have e : (nI t).toNatClampNeg = t := nI_clamp (by omega)
  have hd := zKS_drop (C := C) (rs := rs) (hz := hz) htT hS
  refine And.intro (zi_in ht) ?_
  rw [e]
  refine xw_size (nm_r (e' := nI (zKS T (zU S t 3) C (upd rs t 0) hz)) ?_ ⟨zi_in ht, nm_e ⟨zi_in ht, nm_e ⟨zi_in ht, nm_r (zS_u S t 3) ?_⟩⟩⟩)
  · rw [pk_sub (by omega)]
    exact congrArg nI (by omega)
  · refine xw_adv (zBas_drop hb hS) hH.1 (fun x hx => ?_) rfl (fun h h1 h2 => hp h h1 h2)
    refine hH.2.1 x ?_
    by_cases q : x = t
    · subst q; exact hS
    · rw [zU_n q] at hx; exact hx
/-! the must-come-before relation -/
def zEL (S B C L : Nat → Nat) (rs ws ea ea' : Nat → Int32) (t c : Nat) : Prop :=
  (∀ y, y < 32 → (bt (ea' t) y = true ↔ ∃ j, 1 ≤ j ∧ j < c ∧ y = L j ∧ ((S y = 2 ∧ C y ≤ B t) ∨ zCfl S B C rs ws y t))) ∧
  (∀ x, x ≠ t → ∀ y, y < 32 → (bt (ea' x) y = true ↔ bt (ea x) y = true ∨ (y = t ∧ ∃ j, 1 ≤ j ∧ j < c ∧ x = L j ∧ zCfl S B C rs ws t x)))
theorem zEL_step {t c : Nat} {e0 e1 e2 : Nat → Int32} (hc : 1 ≤ c) (hx : L c ≠ t) (h : zEL S B C L rs ws ea e0 t c)
    (h1 : ∀ y, y < 32 → (bt (e1 t) y = true ↔ bt (e0 t) y = true ∨ (y = L c ∧ ((S y = 2 ∧ C y ≤ B t) ∨ zCfl S B C rs ws y t)))) (h1' : ∀ x, x ≠ t → e1 x = e0 x)
    (h2 : ∀ y, y < 32 → (bt (e2 (L c)) y = true ↔ bt (e1 (L c)) y = true ∨ (y = t ∧ zCfl S B C rs ws t (L c)))) (h2' : ∀ x, x ≠ L c → e2 x = e1 x) :
    zEL S B C L rs ws ea e2 t (c + 1) := by
  constructor
  · intro y hy
    rw [h2' t (fun z => hx z.symm), h1 y hy, h.1 y hy]
    constructor
    · rintro (⟨j, a, b, e⟩ | ⟨a, b⟩)
      · exact ⟨j, a, by omega, e⟩
      · exact ⟨c, hc, by omega, a, b⟩
    · intro ⟨j, a, b, e, f⟩
      by_cases q : j = c
      · subst q; exact Or.inr ⟨e, f⟩
      · exact Or.inl ⟨j, a, by omega, e, f⟩
  · intro x hxt y hy
    by_cases q : x = L c
    · subst q
      rw [h2 y hy, h1' _ hxt, h.2 _ hxt y hy]
      constructor
      · rintro ((a | ⟨a, j, b, d, e, f⟩) | ⟨a, b⟩)
        · exact Or.inl a
        · exact Or.inr ⟨a, j, b, by omega, e, f⟩
        · exact Or.inr ⟨a, c, hc, by omega, rfl, b⟩
      · rintro (a | ⟨a, j, b, d, e, f⟩)
        · exact Or.inl (Or.inl a)
        · exact Or.inr ⟨a, f⟩
    · rw [h2' x q, h1' x hxt, h.2 x hxt y hy]
      constructor
      · rintro (a | ⟨a, j, b, d, e, f⟩)
        · exact Or.inl a
        · exact Or.inr ⟨a, j, b, by omega, e, f⟩
      · rintro (a | ⟨a, j, b, d, e, f⟩)
        · exact Or.inl a
        · refine Or.inr ⟨a, j, b, ?_, e, f⟩
          have : j ≠ c := fun z => q (z ▸ e)
          omega
theorem xw_ls62 {J : Int32 → (Nat → Int32) → (Nat → Int32) → (Nat → Int32) → (Nat → Int32) → (Nat → Int32) → (Nat → Int32) → (Nat → Int32) → (Nat → Int32) → (Nat → Int32) → (Nat → Int32) → (Nat → Int32) → Prop} {t c x : Nat} (ht : t < 32) (hx : x < 32) (hb : zBas T cc bg S B C L)
    (h : ∀ e2 : Nat → Int32, (∀ y, y < 32 → (bt (e2 x) y = true ↔ bt (ea x) y = true ∨ (y = t ∧ zCfl S B C rs ws t x))) → (∀ z, z ≠ x → e2 z = ea z) → J (nI (c + 1)) bs (zS S) (zS B) (zS C) rs ws (zS FO) e2 wr (zS L) od) :
    wX_linkSerial_62 qost J (nI t) ((1 : Int32) <<< (nI t &&& 31)) (nI c) (nI x) (nI T) (nI K) (nI Wl) (nI Ml) (nI cc) (nI bg) (nI kp) (nI hz) (nI os) oc bs (zS S) (zS B) (zS C) rs ws (zS FO) ea wr (zS L) od := by
  have e : (nI x).toNatClampNeg = x := nI_clamp (by omega)
  refine xw_conf ht hx hb (fun q => br_f (by decide) ⟨zi_in hx, zi_in hx, ?_⟩) (fun q => br_t rfl (nm_r (nI_1 c) (h ea (fun y _ => ⟨Or.inl, fun w => w.elim id (fun w => absurd w.2 q)⟩) (fun _ _ => rfl))))
  rw [e]
  refine nm_e (nm_r (nI_1 c) (h _ (fun y hy => ?_) (fun z hz => pk_un hz)))
  rw [pk_us, zb_set ht hy]
  exact ⟨fun w => w.elim Or.inl (fun w => Or.inr ⟨w, q⟩), fun w => w.elim Or.inl (fun w => Or.inr w.1)⟩
theorem xw_ls13 {t : Nat} (ht : t < 32) (hb : zBas T cc bg S B C L) (hCt : C t = cc)
    (hp : ∀ e : Nat → Int32, zEL S B C L rs ws ea e t cc → qost (nI T, nI K, nI Wl, nI Ml, nI cc, nI bg, nI kp, nI hz, nI os, 0, bs, zS S, zS B, zS C, rs, ws, zS FO, e, wr, zS L, od)) :
    ∀ d c e, c + d = cc → 1 ≤ c → zEL S B C L rs ws ea e t c → wX_linkSerial_13 qost (nI t) ((1 : Int32) <<< (nI t &&& 31)) (nI T) (nI K) (nI Wl) (nI Ml) (nI cc) (nI bg) (nI kp) (nI hz) (nI os) oc (d + 1) (nI c) bs (zS S) (zS B) (zS C) rs ws (zS FO) e wr (zS L) od := by
  have hT := zBas_T hb
  have hcc := zBas_cc hb
  have et : (nI t).toNatClampNeg = t := nI_clamp (by omega)
  intro d
  induction d with
  | zero =>
    intro c e hc _ he
    obtain rfl : c = cc := by omega
    exact br_t (nI_le (Nat.le_refl _) (by omega)) (hp e he)
  | succ d ih =>
    intro c e hc h1 he
    have hL := zBas_L32 hb (c := c) (by omega) (by omega)
    have hLt : L c ≠ t := fun z => by have := (zBas_L hb (c := c) (by omega) (by omega)).2; rw [z] at this; omega
    have hY : ((S (L c) = 2 ∧ C (L c) ≤ B t) ∨ zCfl S B C rs ws (L c) t) → wX_linkSerial_49 qost (wX_linkSerial_13 qost (nI t) ((1 : Int32) <<< (nI t &&& 31)) (nI T) (nI K) (nI Wl) (nI Ml) (nI cc) (nI bg) (nI kp) (nI hz) (nI os) oc (d + 1)) (nI t) ((1 : Int32) <<< (nI t &&& 31)) (nI c) (nI (L c)) (nI T) (nI K) (nI Wl) (nI Ml) (nI cc) (nI bg) (nI kp) (nI hz) (nI os) oc bs (zS S) (zS B) (zS C) rs ws (zS FO) e wr (zS L) od := by
      intro hq
      refine And.intro (zi_in ht) ⟨zi_in ht, ?_⟩
      rw [et]
      refine nm_e (xw_ls62 ht hL hb (fun e2 k1 k2 => ih (c + 1) e2 (by omega) (by omega) (zEL_step h1 hLt he (e1 := upd e t (e t ||| (1 : Int32) <<< (nI (L c) &&& 31))) (fun y hy => ?_) (fun z hz => pk_un hz) k1 k2)))
      rw [pk_us, zb_set hL hy]
      exact ⟨fun w => w.elim Or.inl (fun w => Or.inr ⟨w, w ▸ hq⟩), fun w => w.elim Or.inl (fun w => Or.inr w.1)⟩
    have hN : ¬ ((S (L c) = 2 ∧ C (L c) ≤ B t) ∨ zCfl S B C rs ws (L c) t) → wX_linkSerial_62 qost (wX_linkSerial_13 qost (nI t) ((1 : Int32) <<< (nI t &&& 31)) (nI T) (nI K) (nI Wl) (nI Ml) (nI cc) (nI bg) (nI kp) (nI hz) (nI os) oc (d + 1)) (nI t) ((1 : Int32) <<< (nI t &&& 31)) (nI c) (nI (L c)) (nI T) (nI K) (nI Wl) (nI Ml) (nI cc) (nI bg) (nI kp) (nI hz) (nI os) oc bs (zS S) (zS B) (zS C) rs ws (zS FO) e wr (zS L) od := by
      intro hq
      refine xw_ls62 ht hL hb (fun e2 k1 k2 => ih (c + 1) e2 (by omega) (by omega) (zEL_step h1 hLt he (e1 := e) (fun y hy => ?_) (fun z hz => rfl) k1 k2))
      exact ⟨Or.inl, fun w => w.elim id (fun w => absurd (w.1 ▸ w.2) hq)⟩
    refine br_f (nI_ge (by omega) (by omega)) ⟨vp_in_nI (by omega) (by decide), nm_r (e' := nI (L c)) (zS_c (by omega)) ?_⟩
    refine xw_ended hL ht hb (fun q => br_f (by decide) (hY (Or.inl q))) (fun q => br_t rfl ?_)
    exact xw_conf hL ht hb (fun q2 => br_f (by decide) (hY (Or.inr q2))) (fun q2 => br_t rfl (hN (fun w => w.elim q q2)))
theorem xw_ls {t : Nat} (ht : t < 32) (hb : zBas T cc bg S B C L) (hcc1 : 1 ≤ cc) (hCt : C t = cc)
    (hp : ∀ e : Nat → Int32, zEL S B C L rs ws ea e t cc → qost (nI T, nI K, nI Wl, nI Ml, nI cc, nI bg, nI kp, nI hz, nI os, 0, bs, zS S, zS B, zS C, rs, ws, zS FO, e, wr, zS L, od)) : wpX_linkSerial qost (nI T, nI K, nI Wl, nI Ml, nI cc, nI bg, nI kp, nI hz, nI os, oc, bs, zS S, zS B, zS C, rs, ws, zS FO, ea, wr, zS L, od) (nI t) := by
  have et : (nI t).toNatClampNeg = t := nI_clamp (by omega)
  refine nm_e ⟨zi_in ht, ?_⟩
  rw [et]
  refine nm_e ⟨cc - 1 + 1, xw_ls13 ht hb hCt hp (cc - 1) 1 _ (by omega) (Nat.le_refl 1) ⟨fun y _ => ?_, fun x hx y _ => ?_⟩⟩
  · rw [pk_us, b_0]
    exact ⟨fun w => Bool.noConfusion w, fun ⟨j, a, b, _⟩ => by omega⟩
  · rw [pk_un hx]
    exact ⟨Or.inl, fun w => w.elim id (fun ⟨_, j, a, b, _⟩ => by omega)⟩
end
end
section
/-! the component's walks, fourth part: the order, the buffer, settle, scans -/
def zcl (f : Nat → Nat) (i : Nat) : Nat → Nat := fun j => if j < i then 0 else f j
def zcl' (f : Nat → Int32) (i : Nat) : Nat → Int32 := fun j => if j < i then 0 else f j
theorem zcl_s (f : Nat → Nat) (i : Nat) : zU (zcl f i) i 0 = zcl f (i + 1) := by
  funext j
  unfold zU zcl
  by_cases h : j = i
  · rw [if_pos h, if_pos (by omega)]
  · rw [if_neg h]
    by_cases h2 : j < i
    · rw [if_pos h2, if_pos (by omega)]
    · rw [if_neg h2, if_neg (by omega)]
theorem zcl_s' (f : Nat → Int32) (i : Nat) : upd (zcl' f i) i 0 = zcl' f (i + 1) := by
  funext j
  unfold upd zcl'
  by_cases h : j = i
  · rw [if_pos h, if_pos (by omega)]
  · rw [if_neg h]
    by_cases h2 : j < i
    · rw [if_pos h2, if_pos (by omega)]
    · rw [if_neg h2, if_neg (by omega)]
def zbv (bs ws wr : Nat → Int32) (L : Nat → Nat) (cc i : Nat) : Nat → Int32 := fun j => if j < i then zv bs ws wr L j cc else bs j
theorem zv_bs {bs bs' ws wr : Nat → Int32} {L : Nat → Nat} {k : Nat} (h : bs k = bs' k) : ∀ n, zv bs ws wr L k n = zv bs' ws wr L k n := by
  intro n
  induction n with
  | zero => exact h
  | succ n ih => show (if bt (ws (L (n + 1))) k = true then _ else _) = (if bt (ws (L (n + 1))) k = true then _ else _); rw [ih]
theorem zbv_s (bs ws wr : Nat → Int32) (L : Nat → Nat) (cc i : Nat) : upd (zbv bs ws wr L cc i) i (zv (zbv bs ws wr L cc i) ws wr L i cc) = zbv bs ws wr L cc (i + 1) := by
  have e : zv (zbv bs ws wr L cc i) ws wr L i cc = zv bs ws wr L i cc := zv_bs (if_neg (by omega)) cc
  rw [e]
  funext j
  unfold upd zbv
  by_cases h : j = i
  · rw [if_pos h, if_pos (by omega), h]
  · rw [if_neg h]
    by_cases h2 : j < i
    · rw [if_pos h2, if_pos (by omega)]
    · rw [if_neg h2, if_neg (by omega)]
theorem z_pm (m : Nat) (h : m < 2 ^ 30) : nI m + (-1) < nI m := by
  cases m with
  | zero => decide
  | succ n => rw [pk_m1]; exact nI_lt (by omega) (by omega)
section
variable {T K Wl Ml cc bg kp hz os : Nat} {oc : Int32} {bs : Nat → Int32} {S B C : Nat → Nat} {rs ws : Nat → Int32} {FO : Nat → Nat} {ea wr : Nat → Int32} {L : Nat → Nat} {od : Nat → Int32} {rd wt la pl : Nat → Int32}
variable {post : Int32 → Prop} {qost : SX → Prop} {rost : Int32 → SX → Prop}
theorem zBef_32 {x y : Nat} (hb : zBas T cc bg S B C L) (h : zBef S B C rs ws y x) : y < 32 := by
  have := zBas_ltT hb (t := y) (by have := h.2.1; omega)
  have := zBas_T hb
  omega
theorem xw_nio_l {m : Int32} (hb : zBas T cc bg S B C L) (hE : ∀ x, S x = 2 → ∀ y, y < 32 → (bt (ea x) y = true ↔ zBef S B C rs ws y x))
    (h1 : ∀ x, x < 32 → zBest S B C rs ws (fun y => bt m y = true) x → post (nI x))
    (h0 : (∀ x, ¬ zCand S B C rs ws (fun y => bt m y = true) x) → post (-7)) :
    ∀ d i, i + d = cc + 1 → 1 ≤ i → (∀ c, 1 ≤ c → c < i → ¬ zCand S B C rs ws (fun y => bt m y = true) (L c)) → wX_nextInOrder_2 post m (nI T) (nI K) (nI Wl) (nI Ml) (nI cc) (nI bg) (nI kp) (nI hz) (nI os) oc bs (zS S) (zS B) (zS C) rs ws (zS FO) ea wr (zS L) od (d + 1) (nI i) := by
  have hT := zBas_T hb
  have hcc := zBas_cc hb
  intro d
  induction d with
  | zero =>
    intro i hi _ hn
    refine br_t (nI_lt (by omega) (by omega)) (h0 fun x hx => ?_)
    have ⟨a, b, _, e⟩ := zBas_C hb hx.1
    exact hn (C x) a (by omega) (e.symm ▸ hx)
  | succ d ih =>
    intro i hi hi1 hn
    have hL := zBas_L32 hb (c := i) (by omega) (by omega)
    have ⟨hLS, hLC⟩ := zBas_L hb (c := i) (by omega) (by omega)
    have go : ¬ zCand S B C rs ws (fun y => bt m y = true) (L i) → ∀ x, x = nI i + 1 → wX_nextInOrder_2 post m (nI T) (nI K) (nI Wl) (nI Ml) (nI cc) (nI bg) (nI kp) (nI hz) (nI os) oc bs (zS S) (zS B) (zS C) rs ws (zS FO) ea wr (zS L) od (d + 1) x :=
      fun q => nm_r (nI_1 i) (ih (i + 1) (by omega) (by omega) (fun c h2 h3 => by
        by_cases e : c = i
        · subst e; exact q
        · exact hn c h2 (by omega)))
    refine br_f (nI_nlt (by omega) (by omega)) ⟨vp_in_nI (by omega) (by decide), nm_r (e' := nI (L i)) (zS_c (by omega)) ?_⟩
    refine zi (zb_bit hL) (fun q => ⟨zi_in hL, ?_⟩) (fun q => go fun w => q (zb_f.mp w.2.1))
    rw [nI_clamp (show L i < 2 ^ 31 by omega)]
    refine br_c (fun q2 => ?_) (fun q2 => go fun w => q2 ?_)
    · have hc : zCand S B C rs ws (fun y => bt m y = true) (L i) := by
        refine ⟨hLS, zb_f.mpr q, fun y hy => ?_⟩
        have hy32 := zBef_32 hb hy
        have e := (zb_0 _).mp q2 y hy32
        rw [b_and, (hE _ hLS y hy32).mpr hy, Bool.true_and, zb_not m hy32] at e
        revert e
        show _ → bt m y = true
        cases bt m y
        · intro e; exact Bool.noConfusion e
        · intro _; rfl
      refine h1 (L i) hL ⟨hc, fun z hz => ?_⟩
      have ⟨a, b, _, e⟩ := zBas_C hb hz.1
      rw [hLC]
      refine Classical.byContradiction fun w => hn (C z) a (by omega) (e.symm ▸ hz)
    · refine (zb_0 _).mpr fun y hy => ?_
      rw [b_and, zb_not m hy]
      by_cases e : bt (ea (L i)) y = true
      · have := w.2.2 y ((hE _ hLS y hy).mp e)
        rw [show bt m y = true from this, Bool.not_true, Bool.and_false]
      · rw [zb_f.mp e, Bool.false_and]
theorem xw_nio {m : Int32} (hb : zBas T cc bg S B C L) (hE : ∀ x, S x = 2 → ∀ y, y < 32 → (bt (ea x) y = true ↔ zBef S B C rs ws y x))
    (h1 : ∀ x, x < 32 → zBest S B C rs ws (fun y => bt m y = true) x → post (nI x))
    (h0 : (∀ x, ¬ zCand S B C rs ws (fun y => bt m y = true) x) → post (-7)) : wpX_nextInOrder post (nI T, nI K, nI Wl, nI Ml, nI cc, nI bg, nI kp, nI hz, nI os, oc, bs, zS S, zS B, zS C, rs, ws, zS FO, ea, wr, zS L, od) m :=
  Exists.intro (cc + 1) (xw_nio_l hb hE h1 h0 cc 1 (by omega) (Nat.le_refl 1) (fun c h2 h3 => by omega))
theorem zBest_un (hb : zBas T cc bg S B C L) {P : Nat → Prop} {x y : Nat} (hx : zBest S B C rs ws P x) (hy : zBest S B C rs ws P y) : x = y :=
  zBas_inj hb hx.1.1 hy.1.1 (Nat.le_antisymm (hx.2 y hy.1) (hy.2 x hx.1))
theorem xw_bo_l {O : Nat → Nat} {n : Nat} (hb : zBas T cc bg S B C L) (hE : ∀ x, S x = 2 → ∀ y, y < 32 → (bt (ea x) y = true ↔ zBef S B C rs ws y x))
    (hg : zGM cc S B C rs ws O n) (hp : ∀ o : Nat → Int32, (∀ j, j < n → o j = nI (O j)) → qost (nI T, nI K, nI Wl, nI Ml, nI cc, nI bg, nI kp, nI hz, nI n, 1, bs, zS S, zS B, zS C, rs, ws, zS FO, ea, wr, zS L, o)) :
    ∀ d i m o, i + d = n → (∀ y, bt m y = true ↔ zPl O i y) → (∀ j, j < i → o j = nI (O j)) → wX_buildOrder_9 qost (nI T) (nI K) (nI Wl) (nI Ml) (nI cc) (nI bg) (nI kp) (nI hz) oc (d + 1) m (nI i) (nI i) bs (zS S) (zS B) (zS C) rs ws (zS FO) ea wr (zS L) o := by
  have hT := zBas_T hb
  have hcc := zBas_cc hb
  have hn := hg.1
  intro d
  induction d with
  | zero =>
    intro i m o hi hm ho
    obtain rfl : i = n := by omega
    have eP : (fun y => bt m y = true) = zPl O i := funext fun y => propext (hm y)
    refine pk_le cc i (fun _ => hp o ho) (fun _ => ?_)
    refine xw_nio hb hE (fun x _ hx => ?_) (fun _ => br_t rfl (hp o ho))
    rw [eP] at hx
    exact absurd hx.1 (hg.2.2 x)
  | succ d ih =>
    intro i m o hi hm ho
    have eP : (fun y => bt m y = true) = zPl O i := funext fun y => propext (hm y)
    have hO := hg.2.1 i (by omega)
    refine br_f (nI_ge (by omega) (by omega)) ?_
    refine xw_nio hb hE (fun x hx32 hx => ?_) (fun h => ?_)
    · rw [eP] at hx
      obtain rfl : x = O i := zBest_un hb hx hO
      refine br_f (zn7 _ hx32) ⟨zi_in (by omega), nm_r (e' := upd o i (nI (O i))) (by rw [nI_clamp (show i < 2 ^ 31 by omega)]) (nm_r (nI_1 i) (nm_e (nm_r (nI_1 i) (ih (i + 1) _ _ (by omega) (fun y => ?_) (fun j hj => ?_)))))⟩
      · by_cases hy : y < 32
        · rw [zb_set hx32 hy, hm y]
          constructor
          · rintro (⟨j, a, b⟩ | a)
            · exact ⟨j, by omega, b⟩
            · exact ⟨i, by omega, a.symm⟩
          · intro ⟨j, a, b⟩
            by_cases q : j = i
            · subst q; exact Or.inr b.symm
            · exact Or.inl ⟨j, by omega, b⟩
        · rw [b_big (by omega)]
          refine ⟨fun w => Bool.noConfusion w, fun ⟨j, a, b⟩ => ?_⟩
          have hj := (hg.2.1 j (by omega)).1.1
          rw [b] at hj
          have := zBas_ltT hb (t := y) (by omega)
          omega
      · by_cases q : j = i
        · subst q; rw [pk_us]
        · rw [pk_un q]; exact ho j (by omega)
    · rw [eP] at h
      exact absurd hO.1 (h (O i))
theorem xw_bo {O : Nat → Nat} {n : Nat} (hb : zBas T cc bg S B C L) (hE : ∀ x, S x = 2 → ∀ y, y < 32 → (bt (ea x) y = true ↔ zBef S B C rs ws y x))
    (hg : zGM cc S B C rs ws O n) (hp : ∀ o : Nat → Int32, (∀ j, j < n → o j = nI (O j)) → qost (nI T, nI K, nI Wl, nI Ml, nI cc, nI bg, nI kp, nI hz, nI n, 1, bs, zS S, zS B, zS C, rs, ws, zS FO, ea, wr, zS L, o)) : wpX_buildOrder qost (nI T, nI K, nI Wl, nI Ml, nI cc, nI bg, nI kp, nI hz, nI os, oc, bs, zS S, zS B, zS C, rs, ws, zS FO, ea, wr, zS L, od) :=
  Exists.intro (n + 1) (xw_bo_l hb hE hg hp n 0 0 od (by omega) (fun y => by
    rw [b_0]
    exact ⟨fun w => Bool.noConfusion w, fun ⟨j, a, _⟩ => absurd a (Nat.not_lt_zero j)⟩) (fun j hj => absurd hj (Nat.not_lt_zero j)))
/-! the buffer -/
theorem xw_buf {t k : Nat} {v : Int32} (ht : t < 32) (hk : k < 32) (hS : S t ≤ 3) (hW : Wl ≤ 8)
    (h1 : S t = 1 → (bt (ws t) k = true ∨ zp (ws t) < Wl) → rost 0 (nI T, nI K, nI Wl, nI Ml, nI cc, nI bg, nI kp, nI hz, nI os, oc, bs, zS S, zS B, zS C, rs, upd ws t (ws t ||| ((1 : Int32) <<< (nI k &&& 31))), zS FO, ea, upd wr (t * 32 + k) v, zS L, od))
    (h2 : S t = 1 → ¬ bt (ws t) k = true → ¬ zp (ws t) < Wl → rost (-3) (nI T, nI K, nI Wl, nI Ml, nI cc, nI bg, nI kp, nI hz, nI os, oc, bs, zS S, zS B, zS C, rs, ws, zS FO, ea, wr, zS L, od))
    (h3 : S t ≠ 1 → rost (-2) (nI T, nI K, nI Wl, nI Ml, nI cc, nI bg, nI kp, nI hz, nI os, oc, bs, zS S, zS B, zS C, rs, ws, zS FO, ea, wr, zS L, od)) : wpX_buffer rost (nI T, nI K, nI Wl, nI Ml, nI cc, nI bg, nI kp, nI hz, nI os, oc, bs, zS S, zS B, zS C, rs, ws, zS FO, ea, wr, zS L, od) (nI t) (nI k) v := by
  have e : (nI t).toNatClampNeg = t := nI_clamp (by omega)
  have hzp := zp_le (ws t)
  have go : S t = 1 → (bt (ws t) k = true ∨ zp (ws t) < Wl) → wX_buffer_54 rost (nI t) (nI k) v ((1 : Int32) <<< (nI k &&& 31)) (nI T) (nI K) (nI Wl) (nI Ml) (nI cc) (nI bg) (nI kp) (nI hz) (nI os) oc bs (zS S) (zS B) (zS C) rs ws (zS FO) ea wr (zS L) od := by
    intro q1 q2
    refine And.intro (zi_in ht) ⟨zi_in ht, ?_⟩
    rw [e, zx_c ht hk]
    exact nm_e ⟨zx_in ht hk, nm_e (h1 q1 q2)⟩
  refine And.intro (zi_in ht) (zi (zS_1 ht hS) (fun q => nm_e ⟨zi_in ht, ?_⟩) h3)
  rw [e]
  refine zi (zb_bit hk) (fun q2 => ⟨zi_in ht, ?_⟩) (fun q2 => go q (Or.inl ?_))
  · exact xw_size (zi (nI_ltI (by omega) (by omega)) (fun q3 => go q (Or.inr q3)) (fun q3 => h2 q (zb_f.mpr q2) q3))
  · cases hh : bt (ws t) k
    · exact absurd hh q2
    · rfl
/-! settle -/
theorem xw_se62 (hT : T ≤ 32) (hp : rost 0 (nI T, nI K, nI Wl, nI Ml, 0, 0, 0, 0, 0, 0, bs, zS (zcl S T), zS (zcl B T), zS (zcl C T), zcl' rs T, zcl' ws T, zS (zcl FO T), zcl' ea T, wr, zS L, od)) :
    ∀ d i, i + d = T → wX_settle_62 rost (d + 1) (nI i) (nI T) (nI K) (nI Wl) (nI Ml) (nI cc) (nI bg) (nI kp) (nI hz) (nI os) oc bs (zS (zcl S i)) (zS (zcl B i)) (zS (zcl C i)) (zcl' rs i) (zcl' ws i) (zS (zcl FO i)) (zcl' ea i) wr (zS L) od := by
  intro d
  induction d with
  | zero =>
    intro i hi
    obtain rfl : i = T := by omega
    exact br_t (nI_le (Nat.le_refl _) (by omega)) hp
  | succ d ih =>
    intro i hi
    refine br_f (nI_ge (by omega) (by omega)) (xw_clear (by omega) ?_)
    rw [zcl_s S, zcl_s B, zcl_s C, zcl_s FO, zcl_s' rs, zcl_s' ws, zcl_s' ea]
    exact nm_r (nI_1 i) (ih (i + 1) (by omega))
theorem zcl_0 (f : Nat → Nat) : zcl f 0 = f := by
  funext j; exact if_neg (Nat.not_lt_zero j)
theorem zcl_0' (f : Nat → Int32) : zcl' f 0 = f := by
  funext j; exact if_neg (Nat.not_lt_zero j)
theorem zbv_0 : zbv bs ws wr L cc 0 = bs := by
  funext j; exact if_neg (Nat.not_lt_zero j)
theorem xw_se31 (hb : zBas T cc bg S B C L) (hK : K ≤ 32)
    (hp : rost 0 (nI T, nI K, nI Wl, nI Ml, 0, 0, 0, 0, 0, 0, zbv bs ws wr L cc K, zS (zcl S T), zS (zcl B T), zS (zcl C T), zcl' rs T, zcl' ws T, zS (zcl FO T), zcl' ea T, wr, zS L, od)) :
    ∀ d i, i + d = K → wX_settle_31 rost (nI T) (nI K) (nI Wl) (nI Ml) (nI cc) (nI bg) (nI kp) (nI hz) (nI os) oc (d + 1) (nI i) (zbv bs ws wr L cc i) (zS S) (zS B) (zS C) rs ws (zS FO) ea wr (zS L) od := by
  have hT := zBas_T hb
  intro d
  induction d with
  | zero =>
    intro i hi
    obtain rfl : i = K := by omega
    refine br_t (nI_le (Nat.le_refl _) (by omega)) ⟨T + 1, ?_⟩
    have h := xw_se62 (cc := cc) (bg := bg) (kp := kp) (hz := hz) (os := os) (oc := oc) hT hp T 0 (by omega)
    rw [zcl_0, zcl_0, zcl_0, zcl_0, zcl_0', zcl_0', zcl_0'] at h
    exact h
  | succ d ih =>
    intro i hi
    refine br_f (nI_ge (by omega) (by omega)) (xw_ver (by omega) hb (Nat.le_refl cc) ⟨zi_in (by omega), ?_⟩)
    refine nm_r (e' := zbv bs ws wr L cc (i + 1)) (by rw [nI_clamp (show i < 2 ^ 31 by omega), zbv_s]) (nm_r (nI_1 i) (ih (i + 1) (by omega)))
theorem xw_se2 (hb : zBas T cc bg S B C L) (hK : K ≤ 32)
    (h4 : (∃ t, S t = 1) → rost (-4) (nI T, nI K, nI Wl, nI Ml, nI cc, nI bg, nI kp, nI hz, nI os, oc, bs, zS S, zS B, zS C, rs, ws, zS FO, ea, wr, zS L, od))
    (hp : (∀ t, S t ≠ 1) → rost 0 (nI T, nI K, nI Wl, nI Ml, 0, 0, 0, 0, 0, 0, zbv bs ws wr L cc K, zS (zcl S T), zS (zcl B T), zS (zcl C T), zcl' rs T, zcl' ws T, zS (zcl FO T), zcl' ea T, wr, zS L, od)) :
    ∀ d i, i + d = bg → (∀ s, s < i → S s ≠ 1) → wX_settle_2 rost (nI T) (nI K) (nI Wl) (nI Ml) (nI cc) (nI bg) (nI kp) (nI hz) (nI os) oc bs (zS S) (zS B) (zS C) rs ws (zS FO) ea wr (zS L) od (d + 1) (nI i) := by
  have hT := zBas_T hb
  have hbg := zBas_bg hb
  intro d
  induction d with
  | zero =>
    intro i hi hn
    refine br_t (nI_le (by omega) (by omega)) ⟨K + 1, ?_⟩
    have h := xw_se31 (kp := kp) (hz := hz) (os := os) (oc := oc) hb hK (hp fun t z => hn t (by have := zBas_lt hb (t := t) (by omega); omega) z) K 0 (by omega)
    rw [zbv_0] at h
    exact h
  | succ d ih =>
    intro i hi hn
    refine br_f (nI_ge (by omega) (by omega)) ⟨zi_in (by omega), zi (zS_1 (by omega) (zBas_S hb i)) (fun z => h4 ⟨i, z⟩) (fun z => nm_r (nI_1 i) (ih (i + 1) (by omega) (fun s hs => ?_)))⟩
    by_cases e : s = i
    · subst e; exact z
    · exact hn s (by omega)
theorem xw_settle (hb : zBas T cc bg S B C L) (hK : K ≤ 32)
    (h4 : (∃ t, S t = 1) → rost (-4) (nI T, nI K, nI Wl, nI Ml, nI cc, nI bg, nI kp, nI hz, nI os, oc, bs, zS S, zS B, zS C, rs, ws, zS FO, ea, wr, zS L, od))
    (hp : (∀ t, S t ≠ 1) → rost 0 (nI T, nI K, nI Wl, nI Ml, 0, 0, 0, 0, 0, 0, zbv bs ws wr L cc K, zS (zcl S T), zS (zcl B T), zS (zcl C T), zcl' rs T, zcl' ws T, zS (zcl FO T), zcl' ea T, wr, zS L, od)) : wpX_settle rost (nI T, nI K, nI Wl, nI Ml, nI cc, nI bg, nI kp, nI hz, nI os, oc, bs, zS S, zS B, zS C, rs, ws, zS FO, ea, wr, zS L, od) :=
  Exists.intro (bg + 1) (xw_se2 hb hK h4 hp bg 0 (by omega) (fun s hs => absurd hs (Nat.not_lt_zero s)))
/-! scans -/
theorem xw_next_l {t lo hi : Nat} (ht : t < 32) (hhi : hi < 32) (hb : zBas T cc bg S B C L)
    (h7 : (∀ k, lo ≤ k → k ≤ hi → zw bs ws wr B L t k = -7) → wX_next_70 rost (nI t) (nI lo) (-7) (nI hi) (nI T) (nI K) (nI Wl) (nI Ml) (nI cc) (nI bg) (nI kp) (nI hz) (nI os) oc bs (zS S) (zS B) (zS C) rs ws (zS FO) ea wr (zS L) od)
    (hf : ∀ k, lo ≤ k → k ≤ hi → ¬ zw bs ws wr B L t k = -7 → (∀ j, lo ≤ j → j < k → zw bs ws wr B L t j = -7) → wX_next_70 rost (nI t) (nI lo) (nI k) (nI k) (nI T) (nI K) (nI Wl) (nI Ml) (nI cc) (nI bg) (nI kp) (nI hz) (nI os) oc bs (zS S) (zS B) (zS C) rs ws (zS FO) ea wr (zS L) od) :
    ∀ d i, i + d = hi + 1 → lo ≤ i → (∀ j, lo ≤ j → j < i → zw bs ws wr B L t j = -7) → wX_next_27 rost (nI t) (nI lo) (nI hi) (nI T) (nI K) (nI Wl) (nI Ml) (nI cc) (nI bg) (nI kp) (nI hz) (nI os) oc bs (zS S) (zS B) (zS C) rs ws (zS FO) ea wr (zS L) od (d + 1 + 1) (-7) (nI hi) (nI i) := by
  intro d
  induction d with
  | zero =>
    intro i hi' hl hn
    exact br_t (nI_lt (by omega) (by omega)) (h7 fun k h1 h2 => hn k h1 (by omega))
  | succ d ih =>
    intro i hi' hl hn
    refine br_f (nI_nlt (by omega) (by omega)) (br_t rfl (xw_view ht (by omega) hb (br_c (fun z => nm_r (nI_1 i) (ih (i + 1) (by omega) (by omega) (fun j h1 h2 => ?_))) (fun z => nm_r (nI_1 i) ?_))))
    · by_cases e : j = i
      · subst e; exact z
      · exact hn j h1 (by omega)
    · have h70 := hf i hl (by omega) z hn
      exact pk_lt hi (i + 1) (fun _ => h70) (fun _ => br_f (zn7 i (by omega)) h70)
theorem xw_prev_l {t lo hi : Nat} (ht : t < 32) (hhi : hi < 32) (hb : zBas T cc bg S B C L)
    (h7 : (∀ k, lo ≤ k → k ≤ hi → zw bs ws wr B L t k = -7) → wX_prev_70 rost (nI t) (nI hi) (-7) (nI lo) (nI T) (nI K) (nI Wl) (nI Ml) (nI cc) (nI bg) (nI kp) (nI hz) (nI os) oc bs (zS S) (zS B) (zS C) rs ws (zS FO) ea wr (zS L) od)
    (hf : ∀ k, lo ≤ k → k ≤ hi → ¬ zw bs ws wr B L t k = -7 → (∀ j, k < j → j ≤ hi → zw bs ws wr B L t j = -7) → wX_prev_70 rost (nI t) (nI hi) (nI k) (nI k) (nI T) (nI K) (nI Wl) (nI Ml) (nI cc) (nI bg) (nI kp) (nI hz) (nI os) oc bs (zS S) (zS B) (zS C) rs ws (zS FO) ea wr (zS L) od) :
    ∀ d i, lo + d = i → i ≤ hi + 1 → (∀ j, i ≤ j → j ≤ hi → zw bs ws wr B L t j = -7) → wX_prev_27 rost (nI t) (nI lo) (nI hi) (nI T) (nI K) (nI Wl) (nI Ml) (nI cc) (nI bg) (nI kp) (nI hz) (nI os) oc bs (zS S) (zS B) (zS C) rs ws (zS FO) ea wr (zS L) od (d + 1 + 1) (-7) (nI lo) (nI i + (-1)) := by
  intro d
  induction d with
  | zero =>
    intro i hi' hl hn
    obtain rfl : i = lo := by omega
    exact br_t (z_pm i (by omega)) (h7 fun k h1 h2 => hn k h1 h2)
  | succ d ih =>
    intro i hi' hl hn
    obtain ⟨p, rfl⟩ : ∃ p, i = p + 1 := ⟨i - 1, by omega⟩
    rw [pk_m1]
    refine br_f (nI_nlt (by omega) (by omega)) (br_t rfl (xw_view ht (by omega) hb (br_c (fun z => nm_e (ih p (by omega) (by omega) (fun j h1 h2 => ?_))) (fun z => nm_e ?_))))
    · by_cases e : j = p
      · subst e; exact z
      · exact hn j (by omega) h2
    · have h70 := hf p (by omega) (by omega) z (fun j h1 h2 => hn j (by omega) h2)
      exact br_c (fun _ => h70) (fun _ => br_f (zn7 p (by omega)) h70)
end
end
section
/-! the reference's walks, first part -/
def zmk (rd wt : Nat → Int32) (a b : Nat) : Nat → Int32 := fun j => if a ≤ j ∧ j < b ∧ wt j = 0 then 1 else rd j
theorem zmk_0 (rd wt : Nat → Int32) (a : Nat) : zmk rd wt a a = rd := by
  funext j; exact if_neg (fun z => by omega)
theorem zmk_y {rd wt : Nat → Int32} {a b : Nat} (hab : a ≤ b) (h : wt b = 0) : upd (zmk rd wt a b) b 1 = zmk rd wt a (b + 1) := by
  funext j
  unfold upd zmk
  by_cases e : j = b
  · subst e; rw [if_pos rfl, if_pos ⟨hab, by omega, h⟩]
  · rw [if_neg e]
    by_cases q : a ≤ j ∧ j < b ∧ wt j = 0
    · rw [if_pos q, if_pos ⟨q.1, by omega, q.2.2⟩]
    · rw [if_neg q, if_neg (fun z => q ⟨z.1, by omega, z.2.2⟩)]
theorem zmk_n {rd wt : Nat → Int32} {a b : Nat} (h : ¬ wt b = 0) : zmk rd wt a b = zmk rd wt a (b + 1) := by
  funext j
  unfold zmk
  by_cases q : a ≤ j ∧ j < b ∧ wt j = 0
  · rw [if_pos q, if_pos ⟨q.1, by omega, q.2.2⟩]
  · rw [if_neg q, if_neg (fun z => q ⟨z.1, ?_, z.2.2⟩)]
    have : j ≠ b := fun w => h (w ▸ z.2.2)
    omega
def zcr (f : Nat → Int32) (a n : Nat) : Nat → Int32 := fun j => if a ≤ j ∧ j < a + n then 0 else f j
theorem zcr_0 (f : Nat → Int32) (a : Nat) : zcr f a 0 = f := by
  funext j; exact if_neg (fun z => by omega)
theorem zcr_s (f : Nat → Int32) (a n : Nat) : upd (zcr f a n) (a + n) 0 = zcr f a (n + 1) := by
  funext j
  unfold upd zcr
  by_cases e : j = a + n
  · rw [if_pos e, if_pos (by omega)]
  · rw [if_neg e]
    by_cases q : a ≤ j ∧ j < a + n
    · rw [if_pos q, if_pos (by omega)]
    · rw [if_neg q, if_neg (by omega)]
theorem zcr_c (f : Nat → Int32) (i : Nat) : zcr (zcr f 0 (i * 32)) (i * 32) 32 = zcr f 0 ((i + 1) * 32) := by
  funext j
  unfold zcr
  by_cases e : i * 32 ≤ j ∧ j < i * 32 + 32
  · rw [if_pos e, if_pos (by omega)]
  · rw [if_neg e]
    by_cases q : 0 ≤ j ∧ j < 0 + i * 32
    · rw [if_pos q, if_pos (by omega)]
    · rw [if_neg q, if_neg (by omega)]
section
variable {T K Wl Ml cc bg kp hz os : Nat} {oc : Int32} {bs : Nat → Int32} {S B C : Nat → Nat} {rs ws : Nat → Int32} {FO : Nat → Nat} {ea wr : Nat → Int32} {L : Nat → Nat} {od : Nat → Int32} {rd wt la pl : Nat → Int32}
variable {post : Int32 → Prop} {qost : SY → Prop} {rost : Int32 → SY → Prop}
theorem yr0 {t k : Nat} (h : zTie rs ws wr rd wt la) (ht : t < 32) (hk : k < 32) : rd (nI t * 32 + nI k).toNatClampNeg = 0 ↔ bt (rs t) k = false := by
  rw [zx_c ht hk, (h t k ht hk).1, zB_0]
theorem yw0 {t k : Nat} (h : zTie rs ws wr rd wt la) (ht : t < 32) (hk : k < 32) : wt (nI t * 32 + nI k).toNatClampNeg = 0 ↔ bt (ws t) k = false := by
  rw [zx_c ht hk, (h t k ht hk).2.1, zB_0]
theorem yl0 {t k : Nat} (h : zTie rs ws wr rd wt la) (ht : t < 32) (hk : k < 32) (hw : ¬ bt (ws t) k = false) : la (nI t * 32 + nI k).toNatClampNeg = wr (t * 32 + k) := by
  rw [zx_c ht hk, (h t k ht hk).2.2 (by cases e : bt (ws t) k <;> first | rfl | exact absurd e hw)]
theorem yw_sa20 {J : Int32 → Int32 → Prop} {n k p : Nat} (hn : n ≤ cc) (hk : k < 32) (hb : zBas T cc bg S B C L) (ht : zTie rs ws wr rd wt la) (hp : p + 1 ≤ 32)
    (hJ : J (zv bs ws wr L k (min (p + 1) n)) (nI (p + 1 + 1))) :
    ∀ d x v, x + d = T → (p + 1 ≤ n → L (p + 1) < x → v = zv bs ws wr L k (p + 1)) → (¬ (p + 1 ≤ n ∧ L (p + 1) < x) → v = zv bs ws wr L k (min p n)) → wY_stateAfter_20 post J (nI n) (nI k) (nI (p + 1)) (nI T) (nI K) (nI Wl) (nI Ml) (nI cc) bs (zS S) (zS B) (zS C) rd wt la pl (d + 1) v (nI x) := by
  have hT := zBas_T hb
  have hcc := zBas_cc hb
  intro d
  induction d with
  | zero =>
    intro x v hx h1 h2
    refine br_t (nI_le (by omega) (by omega)) (nm_r (nI_1 (p + 1)) ?_)
    have e : v = zv bs ws wr L k (min (p + 1) n) := by
      by_cases q : p + 1 ≤ n
      · have hL := zBas_ltT hb (t := L (p + 1)) (by rw [(zBas_L hb (c := p + 1) (by omega) (by omega)).1]; decide)
        rw [h1 q (by omega), Nat.min_eq_left q]
      · rw [h2 (fun z => q z.1), Nat.min_eq_right (by omega), Nat.min_eq_right (by omega)]
    rw [e]; exact hJ
  | succ d ih =>
    intro x v hx h1 h2
    have hCx := zBas_Cl hb x
    have hx32 : x < 32 := by omega
    refine br_f (nI_ge (by omega) (by omega)) (zi (nI_ltI (by omega) (by omega)) (fun q => nm_r (nI_1 x) (ih (x + 1) v (by omega) (fun z => by omega) (fun _ => h2 (fun z => by omega)))) (fun q => ⟨zi_in hx32, ?_⟩))
    have ⟨hLS, hLC⟩ := zBas_L hb (c := p + 1) (by omega) (by omega)
    have go : x ≠ L (p + 1) → ∀ y, y = nI x + 1 → wY_stateAfter_20 post J (nI n) (nI k) (nI (p + 1)) (nI T) (nI K) (nI Wl) (nI Ml) (nI cc) bs (zS S) (zS B) (zS C) rd wt la pl (d + 1) v y :=
      fun hne => nm_r (nI_1 x) (ih (x + 1) v (by omega) (fun z w => h1 z (by omega)) (fun z => h2 (fun w => z ⟨w.1, by omega⟩)))
    refine zi (zS_2 hx32 (zBas_S hb x)) (fun hS => ⟨zi_in hx32, ?_⟩) (fun hS => go (fun z => hS (z ▸ hLS)))
    rw [zS_c (f := C) (show x < 2 ^ 31 by omega)]
    refine zi (nI_eq (by omega) (by omega)) (fun hC => ⟨zx_in hx32 hk, ?_⟩) (fun hC => go (fun z => hC (z ▸ hLC)))
    have exL : x = L (p + 1) := zBas_inj hb hS hLS (by omega)
    have ev : v = zv bs ws wr L k p := by rw [h2 (fun z => by omega), Nat.min_eq_left (by omega)]
    refine zi (yw0 ht hx32 hk) (fun q0 => nm_r (nI_1 x) (ih (x + 1) v (by omega) (fun z w => ?_) (fun z => absurd ⟨by omega, by omega⟩ z))) (fun q0 => ⟨zx_in hx32 hk, nm_r (e' := wr (x * 32 + k)) (yl0 ht hx32 hk q0) (nm_r (nI_1 x) (ih (x + 1) _ (by omega) (fun z w => ?_) (fun z => absurd ⟨by omega, by omega⟩ z)))⟩)
    · rw [ev, zv, ← exL, if_neg (by rw [q0]; decide)]
    · rw [zv, ← exL, if_pos (by cases e : bt (ws x) k <;> first | rfl | exact absurd e q0)]
theorem yw_sa10 {n k : Nat} (hn : n ≤ cc) (hk : k < 32) (hb : zBas T cc bg S B C L) (ht : zTie rs ws wr rd wt la) (hp : post (zv bs ws wr L k n)) :
    ∀ d i, i + d = 32 → wY_stateAfter_10 post (nI n) (nI k) (nI T) (nI K) (nI Wl) (nI Ml) (nI cc) bs (zS S) (zS B) (zS C) rd wt la pl (d + 1) (zv bs ws wr L k (min i n)) (nI (i + 1)) := by
  have hT := zBas_T hb
  have hcc := zBas_cc hb
  intro d
  induction d with
  | zero =>
    intro i hi
    refine br_t (nI_lt (a := 32) (by omega) (by omega)) ?_
    rw [Nat.min_eq_right (by omega)]; exact hp
  | succ d ih =>
    intro i hi
    exact br_f (nI_nlt (a := 32) (by omega) (by decide)) ⟨T + 1, yw_sa20 hn hk hb ht (by omega) (ih (i + 1) (by omega)) T 0 _ (by omega) (fun _ z => absurd z (Nat.not_lt_zero _)) (fun _ => rfl)⟩
theorem yw_sa {n k : Nat} (hn : n ≤ cc) (hk : k < 32) (hb : zBas T cc bg S B C L) (ht : zTie rs ws wr rd wt la) (hp : post (zv bs ws wr L k n)) : wpY_stateAfter post (nI T, nI K, nI Wl, nI Ml, nI cc, bs, zS S, zS B, zS C, rd, wt, la, pl) (nI n) (nI k) := by
  have h := yw_sa10 (pl := pl) (Wl := Wl) (Ml := Ml) (K := K) hn hk hb ht hp 32 0 (by omega)
  rw [Nat.min_eq_left (Nat.zero_le n)] at h
  refine And.intro (zi_in hk) (nm_r (e' := bs k) (by rw [nI_clamp (show k < 2 ^ 31 by omega)]) ⟨33, h⟩)
theorem yw_view {t k : Nat} (ht : t < 32) (hk : k < 32) (hb : zBas T cc bg S B C L) (hti : zTie rs ws wr rd wt la) (hp : post (zw bs ws wr B L t k)) : wpY_view post (nI T, nI K, nI Wl, nI Ml, nI cc, bs, zS S, zS B, zS C, rd, wt, la, pl) (nI t) (nI k) := by
  unfold zw at hp
  refine And.intro (zx_in ht hk) (zi (yw0 hti ht hk) (fun q => ⟨zi_in ht, ?_⟩) (fun q => ⟨zx_in ht hk, ?_⟩))
  · rw [if_neg (by rw [q]; decide)] at hp
    rw [zS_c (f := B) (show t < 2 ^ 31 by omega)]
    exact yw_sa (zBas_B hb t) hk hb hti hp
  · rw [if_pos (by cases e : bt (ws t) k <;> first | rfl | exact absurd e q)] at hp
    rw [yl0 hti ht hk q]; exact hp
theorem yw_k26 {t : Nat} (ht : t < 32) (hb : zBas T cc bg S B C L) (hH : zHz cc S B hz) (h1 : hz < C t → post 1) (h0 : ¬ hz < C t → post 0) :
    ∀ d i, i + d = T → (∀ u, u < i → S u = 1 → C t ≤ B u) → wY_keepsMarks_26 post (nI t) (nI T) (nI K) (nI Wl) (nI Ml) (nI cc) bs (zS S) (zS B) (zS C) rd wt la pl (d + 1) (nI i) := by
  have hT := zBas_T hb
  have hcc := zBas_cc hb
  have hCt := zBas_Cl hb t
  intro d
  induction d with
  | zero =>
    intro i hi hn
    refine br_t (nI_le (by omega) (by omega)) (h0 fun q => ?_)
    rcases hH.2.2 with ⟨u, a, b⟩ | ⟨a, b⟩
    · have := hn u (by have := zBas_ltT hb (t := u) (by omega); omega) a
      omega
    · omega
  | succ d ih =>
    intro i hi hn
    have hBi := zBas_B hb i
    have hi32 : i < 32 := by omega
    refine br_f (nI_ge (by omega) (by omega)) ⟨zi_in hi32, zi (zS_1 hi32 (zBas_S hb i)) (fun q => ⟨zi_in hi32, zi_in ht, ?_⟩) (fun q => nm_r (nI_1 i) (ih (i + 1) (by omega) (fun u hu hS => ?_)))⟩
    · rw [zS_c (f := B) (show i < 2 ^ 31 by omega), zS_c (f := C) (show t < 2 ^ 31 by omega)]
      refine zi (nI_leI (by omega) (by omega)) (fun w => nm_r (nI_1 i) (ih (i + 1) (by omega) (fun u hu hS => ?_))) (fun w => h1 (by have := hH.2.1 i q; omega))
      by_cases e : u = i
      · subst e; exact w
      · exact hn u (by omega) hS
    · by_cases e : u = i
      · subst e; exact absurd hS q
      · exact hn u (by omega) hS
theorem yw_keeps {t : Nat} (ht : t < 32) (hb : zBas T cc bg S B C L) (hH : zHz cc S B hz)
    (h1 : S t = 1 ∨ (S t = 2 ∧ hz < C t) → post 1) (h0 : ¬ (S t = 1 ∨ (S t = 2 ∧ hz < C t)) → post 0) : wpY_keepsMarks post (nI T, nI K, nI Wl, nI Ml, nI cc, bs, zS S, zS B, zS C, rd, wt, la, pl) (nI t) := by
  refine And.intro (zi_in ht) (zi (zS_1 ht (zBas_S hb t)) (fun z => h1 (Or.inl z)) (fun z => ⟨zi_in ht, ?_⟩))
  exact zi (zS_2 ht (zBas_S hb t)) (fun z2 => ⟨T + 1, yw_k26 ht hb hH (fun q => h1 (Or.inr ⟨z2, q⟩)) (fun q => h0 fun w => w.elim z (fun w => q w.2)) T 0 (by omega) (fun u hu => absurd hu (Nat.not_lt_zero u))⟩) (fun z2 => h0 fun q => q.elim z (fun w => z2 w.1))
theorem yw_mk22 {J : Int32 → Int32 → Prop} {t a : Nat} (ht : t < 32) (hK : K ≤ 32) (hti : zTie rs ws wr rd wt la) (hJ : J (nI (a + zc (bt (rs t)) K)) (nI (t + 1))) :
    ∀ d k, k + d = K → wY_markers_22 post J (nI t) (nI T) (nI K) (nI Wl) (nI Ml) (nI cc) bs (zS S) (zS B) (zS C) rd wt la pl (d + 1) (nI (a + zc (bt (rs t)) k)) (nI k) := by
  intro d
  induction d with
  | zero =>
    intro k hk
    obtain rfl : k = K := by omega
    exact br_t (nI_le (Nat.le_refl _) (by omega)) (nm_r (nI_1 t) hJ)
  | succ d ih =>
    intro k hk
    refine br_f (nI_ge (by omega) (by omega)) ⟨zx_in ht (by omega), zi (yr0 hti ht (by omega)) (fun q => nm_r (nI_1 k) ?_) (fun q => nm_r (e' := nI (a + zc (bt (rs t)) (k + 1))) ?_ (nm_r (nI_1 k) (ih (k + 1) (by omega))))⟩
    · have h := ih (k + 1) (by omega)
      rw [zc, if_neg (by rw [q]; decide)] at h
      exact h
    · rw [nI_1, zc, if_pos (by cases e : bt (rs t) k <;> first | rfl | exact absurd e q)]
      rfl
theorem yw_mk4 (hK : K ≤ 32) (hb : zBas T cc bg S B C L) (hH : zHz cc S B hz) (hBi : zBit K S rs ws) (hti : zTie rs ws wr rd wt la) (hp : post (nI (zKS T S C rs hz))) :
    ∀ d t, t + d = T → wY_markers_4 post (nI T) (nI K) (nI Wl) (nI Ml) (nI cc) bs (zS S) (zS B) (zS C) rd wt la pl (d + 1) (nI (zm (zKf S C rs hz) t)) (nI t) := by
  have hT := zBas_T hb
  intro d
  induction d with
  | zero =>
    intro t ht
    obtain rfl : t = T := by omega
    exact br_t (nI_le (Nat.le_refl _) (by omega)) hp
  | succ d ih =>
    intro t ht
    have ht32 : t < 32 := by omega
    have h := ih (t + 1) (by omega)
    rw [zm] at h
    refine br_f (nI_ge (by omega) (by omega)) (yw_keeps ht32 hb hH (fun q => br_f (by decide) ⟨K + 1, yw_mk22 ht32 hK hti ?_ K 0 (by omega)⟩) (fun q => br_t rfl (nm_r (nI_1 t) ?_)))
    · rw [show zKf S C rs hz t = zp (rs t) from if_pos q, zp_K hK (fun k hk => ((hBi t).1 k hk).1)] at h
      exact h
    · rw [show zKf S C rs hz t = 0 from if_neg q] at h
      exact h
theorem yw_mk (hK : K ≤ 32) (hb : zBas T cc bg S B C L) (hH : zHz cc S B hz) (hBi : zBit K S rs ws) (hti : zTie rs ws wr rd wt la) (hp : post (nI (zKS T S C rs hz))) : wpY_markers post (nI T, nI K, nI Wl, nI Ml, nI cc, bs, zS S, zS B, zS C, rd, wt, la, pl) :=
  Exists.intro (T + 1) (yw_mk4 hK hb hH hBi hti hp T 0 (by omega))
theorem yw_lk81 {t lo hi : Nat} (ht : t < 32) (hhi : hi < 32) (hp : rost 1 (nI T, nI K, nI Wl, nI Ml, nI cc, bs, zS S, zS B, zS C, zmk rd wt (t * 32 + lo) (t * 32 + hi + 1), wt, la, pl)) :
    ∀ d i, i + d = hi + 1 → lo ≤ i → wY_look_81 rost (nI t) (nI hi) (nI T) (nI K) (nI Wl) (nI Ml) (nI cc) (d + 1) (nI i) bs (zS S) (zS B) (zS C) (zmk rd wt (t * 32 + lo) (t * 32 + i)) wt la pl := by
  intro d
  induction d with
  | zero =>
    intro i hi' _
    obtain rfl : i = hi + 1 := by omega
    exact br_t (nI_lt (by omega) (by omega)) hp
  | succ d ih =>
    intro i hi' hl
    refine br_f (nI_nlt (by omega) (by omega)) ⟨zx_in ht (by omega), ?_⟩
    rw [zx_c ht (show i < 32 by omega), znb1]
    refine br_c (fun q => ⟨zx_in ht (by omega), nm_r (zmk_y (by omega) q) (nm_r (nI_1 i) (ih (i + 1) (by omega) (by omega)))⟩) (fun q => nm_r (nI_1 i) ?_)
    have h := ih (i + 1) (by omega) (by omega)
    rw [show t * 32 + (i + 1) = t * 32 + i + 1 from rfl, ← zmk_n q] at h
    exact h
theorem zf_lo {t lo hi : Nat} (hl : lo ≤ hi) (hh : hi < 32) : zc (bt (zf rs ws t lo hi)) lo = 0 := by
  have h : ¬ 0 < zc (bt (zf rs ws t lo hi)) lo := by
    rw [zc_pos]
    intro ⟨k, hk, e⟩
    have := ((zf_bt (by omega) hh (by omega)).mp e).1
    omega
  omega
theorem zf_hi {t lo hi : Nat} (hl : lo ≤ hi) (hh : hi < 32) : zp (zf rs ws t lo hi) = zc (bt (zf rs ws t lo hi)) (hi + 1) :=
  zp_K (by omega) (fun k hk => by
    by_cases h : k < 32
    · refine zb_f.mp fun e => ?_
      have := ((zf_bt (by omega) hh h).mp e).1
      omega
    · exact b_big (by omega))
theorem yw_lk6 {t lo hi : Nat} (ht : t < 32) (hlo : lo ≤ hi) (hhi : hi < K) (hK : K ≤ 32) (hM : Ml ≤ 256) (hkp : kp ≤ Ml) (hk : kp = zKS T S C rs hz) (hb : zBas T cc bg S B C L) (hH : zHz cc S B hz) (hBi : zBit K S rs ws) (hti : zTie rs ws wr rd wt la)
    (h0 : zf rs ws t lo hi = 0 → rost 1 (nI T, nI K, nI Wl, nI Ml, nI cc, bs, zS S, zS B, zS C, rd, wt, la, pl))
    (h1 : ¬ zf rs ws t lo hi = 0 → kp + zp (zf rs ws t lo hi) ≤ Ml → rost 1 (nI T, nI K, nI Wl, nI Ml, nI cc, bs, zS S, zS B, zS C, zmk rd wt (t * 32 + lo) (t * 32 + hi + 1), wt, la, pl))
    (h2 : ¬ zf rs ws t lo hi = 0 → Ml < kp + zp (zf rs ws t lo hi) → rost 0 (nI T, nI K, nI Wl, nI Ml, nI cc, bs, zS S, zS B, zS C, rd, wt, la, pl)) :
    ∀ d i, i + d = hi + 1 → lo ≤ i → wY_look_6 rost (nI t) (nI lo) (nI hi) (nI T) (nI K) (nI Wl) (nI Ml) (nI cc) bs (zS S) (zS B) (zS C) rd wt la pl (d + 1) (nI (zc (bt (zf rs ws t lo hi)) i)) (nI i) := by
  have hle := zp_le (zf rs ws t lo hi)
  intro d
  induction d with
  | zero =>
    intro i hi' _
    obtain rfl : i = hi + 1 := by omega
    rw [← zf_hi hlo (by omega)]
    refine br_t (nI_lt (by omega) (by omega)) (zi (nI_eq (b := 0) (by omega) (by decide)) (fun q => h0 (zp_eq0.mp q)) (fun q => ?_))
    have q' : ¬ zf rs ws t lo hi = 0 := fun z => q (zp_eq0.mpr z)
    refine yw_mk hK hb hH hBi hti ?_
    rw [nI_add, ← hk]
    refine zi (nI_leI (by omega) (by omega)) (fun w => ⟨hi + 1 - lo + 1, ?_⟩) (fun w => h2 q' (by omega))
    have h := yw_lk81 (lo := lo) ht (by omega) (h1 q' w) (hi + 1 - lo) lo (by omega) (Nat.le_refl lo)
    rw [zmk_0] at h
    exact h
  | succ d ih =>
    intro i hi' hl
    have hi32 : i < 32 := by omega
    have h := ih (i + 1) (by omega) (by omega)
    have hbt := zf_bt (rs := rs) (ws := ws) (t := t) (lo := lo) (hi := hi) (k := i) (by omega) (by omega) hi32
    rw [zc] at h
    refine br_f (nI_nlt (by omega) (by omega)) ⟨zx_in ht hi32, zi (yw0 hti ht hi32) (fun q => ⟨zx_in ht hi32, zi (yr0 hti ht hi32) (fun q2 => ?_) (fun q2 => ?_)⟩) (fun q => ?_)⟩
    · rw [if_pos (hbt.mpr ⟨⟨hl, by omega⟩, q, q2⟩)] at h
      exact nm_r (nI_1 _) (nm_r (nI_1 i) h)
    · rw [if_neg (fun z => q2 (hbt.mp z).2.2)] at h
      exact nm_r (nI_1 i) h
    · rw [if_neg (fun z => q (hbt.mp z).2.1)] at h
      exact nm_r (nI_1 i) h
theorem yw_look {t lo hi : Nat} (ht : t < 32) (hlo : lo ≤ hi) (hhi : hi < K) (hK : K ≤ 32) (hM : Ml ≤ 256) (hkp : kp ≤ Ml) (hk : kp = zKS T S C rs hz) (hb : zBas T cc bg S B C L) (hH : zHz cc S B hz) (hBi : zBit K S rs ws) (hti : zTie rs ws wr rd wt la)
    (h0 : zf rs ws t lo hi = 0 → rost 1 (nI T, nI K, nI Wl, nI Ml, nI cc, bs, zS S, zS B, zS C, rd, wt, la, pl))
    (h1 : ¬ zf rs ws t lo hi = 0 → kp + zp (zf rs ws t lo hi) ≤ Ml → rost 1 (nI T, nI K, nI Wl, nI Ml, nI cc, bs, zS S, zS B, zS C, zmk rd wt (t * 32 + lo) (t * 32 + hi + 1), wt, la, pl))
    (h2 : ¬ zf rs ws t lo hi = 0 → Ml < kp + zp (zf rs ws t lo hi) → rost 0 (nI T, nI K, nI Wl, nI Ml, nI cc, bs, zS S, zS B, zS C, rd, wt, la, pl)) : wpY_look rost (nI T, nI K, nI Wl, nI Ml, nI cc, bs, zS S, zS B, zS C, rd, wt, la, pl) (nI t) (nI lo) (nI hi) := by
  have h := yw_lk6 ht hlo hhi hK hM hkp hk hb hH hBi hti h0 h1 h2 (hi + 1 - lo) lo (by omega) (Nat.le_refl lo)
  rw [zf_lo hlo (by omega)] at h
  exact Exists.intro (hi + 1 - lo + 1) h
theorem yw_wc4 {t : Nat} (ht : t < 32) (hK : K ≤ 32) (hti : zTie rs ws wr rd wt la) (hp : post (nI (zc (bt (ws t)) K))) :
    ∀ d k, k + d = K → wY_writeCount_4 post (nI t) (nI T) (nI K) (nI Wl) (nI Ml) (nI cc) bs (zS S) (zS B) (zS C) rd wt la pl (d + 1) (nI (zc (bt (ws t)) k)) (nI k) := by
  intro d
  induction d with
  | zero =>
    intro k hk
    obtain rfl : k = K := by omega
    exact br_t (nI_le (Nat.le_refl _) (by omega)) hp
  | succ d ih =>
    intro k hk
    have h := ih (k + 1) (by omega)
    rw [zc] at h
    refine br_f (nI_ge (by omega) (by omega)) ⟨zx_in ht (by omega), zi (yw0 hti ht (by omega)) (fun q => nm_r (nI_1 k) ?_) (fun q => nm_r (nI_1 _) (nm_r (nI_1 k) ?_))⟩
    · rw [if_neg (by rw [q]; decide)] at h
      exact h
    · rw [if_pos (by cases e : bt (ws t) k <;> first | rfl | exact absurd e q)] at h
      exact h
theorem yw_wc {t : Nat} (ht : t < 32) (hK : K ≤ 32) (hBi : zBit K S rs ws) (hti : zTie rs ws wr rd wt la) (hp : post (nI (zp (ws t)))) : wpY_writeCount post (nI T, nI K, nI Wl, nI Ml, nI cc, bs, zS S, zS B, zS C, rd, wt, la, pl) (nI t) := by
  rw [zp_K hK (fun k hk => ((hBi t).1 k hk).2)] at hp
  exact Exists.intro (K + 1) (yw_wc4 ht hK hti hp K 0 (by omega))
theorem yw_em2 {t : Nat} (ht : t < 32) (hp : qost (nI T, nI K, nI Wl, nI Ml, nI cc, bs, zS S, zS B, zS C, zcr rd (t * 32) 32, zcr wt (t * 32) 32, zcr la (t * 32) 32, pl)) :
    ∀ d k, k + d = 32 → wY_empty_2 qost (nI t) (nI T) (nI K) (nI Wl) (nI Ml) (nI cc) (d + 1) (nI k) bs (zS S) (zS B) (zS C) (zcr rd (t * 32) k) (zcr wt (t * 32) k) (zcr la (t * 32) k) pl := by
  intro d
  induction d with
  | zero =>
    intro k hk
    obtain rfl : k = 32 := by omega
    exact br_t (nI_le (a := 32) (b := 32) (Nat.le_refl _) (by omega)) hp
  | succ d ih =>
    intro k hk
    have i := zx_in ht (show k < 32 by omega)
    refine br_f (nI_ge (b := 32) (by omega) (by omega)) ⟨i, ?_⟩
    rw [zx_c ht (show k < 32 by omega), znb0]
    exact nm_r (zcr_s rd (t * 32) k) ⟨i, nm_r (zcr_s wt (t * 32) k) ⟨i, nm_r (zcr_s la (t * 32) k) (nm_r (nI_1 k) (ih (k + 1) (by omega)))⟩⟩
theorem yw_em {t : Nat} (ht : t < 32) (hp : qost (nI T, nI K, nI Wl, nI Ml, nI cc, bs, zS S, zS B, zS C, zcr rd (t * 32) 32, zcr wt (t * 32) 32, zcr la (t * 32) 32, pl)) : wpY_empty qost (nI T, nI K, nI Wl, nI Ml, nI cc, bs, zS S, zS B, zS C, rd, wt, la, pl) (nI t) := by
  have h := yw_em2 ht hp 32 0 (by omega)
  rw [zcr_0, zcr_0, zcr_0] at h
  exact Exists.intro 33 h
theorem yw_bg2 (hb : zBas T cc bg S B C L) (h0 : bg = T → rost (-3) (nI T, nI K, nI Wl, nI Ml, nI cc, bs, zS S, zS B, zS C, rd, wt, la, pl))
    (h1 : bg < T → rost (nI bg) (nI T, nI K, nI Wl, nI Ml, nI cc, bs, zS (zU S bg 1), zS (zU B bg cc), zS C, zcr rd (bg * 32) 32, zcr wt (bg * 32) 32, zcr la (bg * 32) 32, pl)) :
    ∀ d i, i + d = T → i ≤ bg → wY_begin_2 rost (nI T) (nI K) (nI Wl) (nI Ml) (nI cc) bs (zS S) (zS B) (zS C) rd wt la pl (d + 1) (nI i) := by
  have hT := zBas_T hb
  have hbg := zBas_bg hb
  intro d
  induction d with
  | zero =>
    intro i hi hl
    exact br_t (nI_le (by omega) (by omega)) (h0 (by omega))
  | succ d ih =>
    intro i hi hl
    have hi32 : i < 32 := by omega
    refine br_f (nI_ge (by omega) (by omega)) ⟨zi_in hi32, zi (zS_0 hi32 (zBas_S hb i)) (fun q => ⟨zi_in hi32, ?_⟩) (fun q => nm_r (nI_1 i) (ih (i + 1) (by omega) ?_))⟩
    · obtain rfl : i = bg := by
        refine Classical.byContradiction fun z => ?_
        exact hb.2.2.1 i (by omega) q
      exact nm_r (zS_ut (v := 1) (by omega) rfl rfl) ⟨zi_in hi32, nm_r (zS_ut (by omega) rfl rfl) (yw_em hi32 (h1 (by omega)))⟩
    · refine Classical.byContradiction fun z => q (hb.2.2.2.1 i (by omega)).1
theorem yw_begin (hb : zBas T cc bg S B C L) (h0 : bg = T → rost (-3) (nI T, nI K, nI Wl, nI Ml, nI cc, bs, zS S, zS B, zS C, rd, wt, la, pl))
    (h1 : bg < T → rost (nI bg) (nI T, nI K, nI Wl, nI Ml, nI cc, bs, zS (zU S bg 1), zS (zU B bg cc), zS C, zcr rd (bg * 32) 32, zcr wt (bg * 32) 32, zcr la (bg * 32) 32, pl)) : wpY_begin rost (nI T, nI K, nI Wl, nI Ml, nI cc, bs, zS S, zS B, zS C, rd, wt, la, pl) :=
  Exists.intro (T + 1) (yw_bg2 hb h0 h1 T 0 (by omega) (Nat.zero_le bg))
end
end
section
/-! the reference's walks, second part: conflicts, verdicts, the order, settle, scans -/
section
variable {T K Wl Ml cc bg kp hz os : Nat} {oc : Int32} {bs : Nat → Int32} {S B C : Nat → Nat} {rs ws : Nat → Int32} {FO : Nat → Nat} {ea wr : Nat → Int32} {L : Nat → Nat} {od : Nat → Int32} {rd wt la pl : Nat → Int32}
variable {post : Int32 → Prop} {qost : SY → Prop} {rost : Int32 → SY → Prop}
theorem zbf {b : Bool} (h : ¬ b = false) : b = true := by cases b <;> first | rfl | exact absurd rfl h
theorem zb_andK {a b : Int32} (h : ∀ k, K ≤ k → bt b k = false) (hn : ∀ k, k < K → ¬ (bt a k = true ∧ bt b k = true)) : (a &&& b) = 0 := by
  refine Classical.byContradiction fun z => ?_
  obtain ⟨k, _, h1, h2⟩ := (zb_and a b).mp z
  by_cases q : k < K
  · exact hn k q ⟨h1, h2⟩
  · rw [h k (by omega)] at h2
    exact Bool.noConfusion h2
theorem zb_andM {a b : Int32} {k : Nat} (hk : k < 32) (h1 : bt a k = true) (h2 : bt b k = true) : ¬ (a &&& b) = 0 := (zb_and a b).mpr ⟨k, hk, h1, h2⟩
theorem yw_cf125 {a b : Nat} (ha : a < 32) (hb' : b < 32) (hK : K ≤ 32) (hBi : zBit K S rs ws) (hti : zTie rs ws wr rd wt la)
    (h1 : ¬ (rs a &&& ws b) = 0 → post 1) (h0 : (rs a &&& ws b) = 0 → post 0) :
    ∀ d k, k + d = K → (∀ j, j < k → ¬ (bt (rs a) j = true ∧ bt (ws b) j = true)) → wY_conflict_125 post (nI a) (nI b) (nI T) (nI K) (nI Wl) (nI Ml) (nI cc) bs (zS S) (zS B) (zS C) rd wt la pl (d + 1) (nI k) := by
  intro d
  induction d with
  | zero =>
    intro k hk hn
    obtain rfl : k = K := by omega
    exact br_t (nI_le (Nat.le_refl _) (by omega)) (h0 (zb_andK (fun j hj => ((hBi b).1 j hj).2) hn))
  | succ d ih =>
    intro k hk hn
    have hk32 : k < 32 := by omega
    have go : ¬ (bt (rs a) k = true ∧ bt (ws b) k = true) → ∀ x, x = nI k + 1 → wY_conflict_125 post (nI a) (nI b) (nI T) (nI K) (nI Wl) (nI Ml) (nI cc) bs (zS S) (zS B) (zS C) rd wt la pl (d + 1) x :=
      fun q => nm_r (nI_1 k) (ih (k + 1) (by omega) (fun j hj => by
        by_cases e : j = k
        · subst e; exact q
        · exact hn j (by omega)))
    refine br_f (nI_ge (by omega) (by omega)) ⟨zx_in ha hk32, zi (yr0 hti ha hk32) (fun q => go (fun w => by rw [q] at w; exact Bool.noConfusion w.1)) (fun q => ⟨zx_in hb' hk32, ?_⟩)⟩
    exact zi (yw0 hti hb' hk32) (fun q2 => go (fun w => by rw [q2] at w; exact Bool.noConfusion w.2)) (fun q2 => h1 (zb_andM hk32 (zbf q) (zbf q2)))
theorem yw_conf {a b : Nat} (ha : a < T) (hb' : b < T) (hK : K ≤ 32) (hb : zBas T cc bg S B C L) (hBi : zBit K S rs ws) (hti : zTie rs ws wr rd wt la)
    (h1 : zCfl S B C rs ws a b → post 1) (h0 : ¬ zCfl S B C rs ws a b → post 0) : wpY_conflict post (nI T, nI K, nI Wl, nI Ml, nI cc, bs, zS S, zS B, zS C, rd, wt, la, pl) (nI a) (nI b) := by
  have hT := zBas_T hb
  have hcc := zBas_cc hb
  have ha32 : a < 32 := by omega
  have hb32 : b < 32 := by omega
  have hCa := zBas_Cl hb a
  have hCb := zBas_Cl hb b
  have hBa := zBas_B hb a
  have hBb := zBas_B hb b
  unfold wpY_conflict
  refine yw_txn hT ha (br_t rfl (yw_txn hT hb' (br_t rfl (zi (nI_eq (by omega) (by omega)) (fun q => h0 fun w => w.1 q) (fun q => ?_)))))
  have g125 : (S a = 1 ∨ S a = 2) → (S b = 1 ∨ S b = 2) → ¬ (S a = 2 ∧ C a ≤ B b) → ¬ (S b = 2 ∧ C b ≤ B a) → ∃ n, wY_conflict_125 post (nI a) (nI b) (nI T) (nI K) (nI Wl) (nI Ml) (nI cc) bs (zS S) (zS B) (zS C) rd wt la pl n 0 :=
    fun c1 c2 c3 c4 => ⟨K + 1, yw_cf125 ha32 hb32 hK hBi hti (fun w => h1 ⟨q, c1, c2, w, c3, c4⟩) (fun w => h0 fun z => z.2.2.2.1 w) K 0 (by omega) (fun j hj => absurd hj (Nat.not_lt_zero j))⟩
  have g96 : (S a = 1 ∨ S a = 2) → (S b = 1 ∨ S b = 2) → ¬ (S a = 2 ∧ C a ≤ B b) → wY_conflict_96 post (nI a) (nI b) (nI T) (nI K) (nI Wl) (nI Ml) (nI cc) bs (zS S) (zS B) (zS C) rd wt la pl := by
    intro c1 c2 c3
    refine And.intro (zi_in hb32) (zi (zS_2 hb32 (zBas_S hb b)) (fun w => ⟨zi_in hb32, zi_in ha32, ?_⟩) (fun w => g125 c1 c2 c3 (fun z => w z.1)))
    rw [zS_c (f := B) (show a < 2 ^ 31 by omega), zS_c (f := C) (show b < 2 ^ 31 by omega)]
    exact zi (nI_ltI (by omega) (by omega)) (fun z => g125 c1 c2 c3 (fun y => by omega)) (fun z => h0 fun y => y.2.2.2.2.2 ⟨w, by omega⟩)
  have g69 : (S a = 1 ∨ S a = 2) → (S b = 1 ∨ S b = 2) → wY_conflict_69 post (nI a) (nI b) (nI T) (nI K) (nI Wl) (nI Ml) (nI cc) bs (zS S) (zS B) (zS C) rd wt la pl := by
    intro c1 c2
    refine And.intro (zi_in ha32) (zi (zS_2 ha32 (zBas_S hb a)) (fun w => ⟨zi_in ha32, zi_in hb32, ?_⟩) (fun w => g96 c1 c2 (fun z => w z.1)))
    rw [zS_c (f := B) (show b < 2 ^ 31 by omega), zS_c (f := C) (show a < 2 ^ 31 by omega)]
    exact zi (nI_ltI (by omega) (by omega)) (fun z => g96 c1 c2 (fun y => by omega)) (fun z => h0 fun y => y.2.2.2.2.1 ⟨w, by omega⟩)
  have g47 : (S a = 1 ∨ S a = 2) → wY_conflict_47 post (nI a) (nI b) (nI T) (nI K) (nI Wl) (nI Ml) (nI cc) bs (zS S) (zS B) (zS C) rd wt la pl := by
    intro c1
    refine And.intro (zi_in hb32) (zi (zS_1 hb32 (zBas_S hb b)) (fun w => g69 c1 (Or.inl w)) (fun w => ⟨zi_in hb32, ?_⟩))
    exact zi (zS_2 hb32 (zBas_S hb b)) (fun w2 => g69 c1 (Or.inr w2)) (fun w2 => h0 fun y => y.2.2.1.elim w w2)
  refine ⟨zi_in ha32, zi (zS_1 ha32 (zBas_S hb a)) (fun w => g47 (Or.inl w)) (fun w => ⟨zi_in ha32, ?_⟩)⟩
  exact zi (zS_2 ha32 (zBas_S hb a)) (fun w2 => g47 (Or.inr w2)) (fun w2 => h0 fun y => y.2.1.elim w w2)
/-! the verdict -/
theorem yw_vd60 {J : Int32 → Prop} {t x : Nat} (ht : t < 32) (hx : x < 32) (hK : K ≤ 32) (hBi : zBit K S rs ws) (hti : zTie rs ws wr rd wt la)
    (h5 : ¬ (ws x &&& ws t) = 0 → post (-5)) (hJ : (ws x &&& ws t) = 0 → J (nI (x + 1))) :
    ∀ d k, k + d = K → (∀ j, j < k → ¬ (bt (ws x) j = true ∧ bt (ws t) j = true)) → wY_verdict_60 post J (nI t) (nI x) (nI T) (nI K) (nI Wl) (nI Ml) (nI cc) bs (zS S) (zS B) (zS C) rd wt la pl (d + 1) (nI k) := by
  intro d
  induction d with
  | zero =>
    intro k hk hn
    obtain rfl : k = K := by omega
    exact br_t (nI_le (Nat.le_refl _) (by omega)) (nm_r (nI_1 x) (hJ (zb_andK (fun j hj => ((hBi t).1 j hj).2) hn)))
  | succ d ih =>
    intro k hk hn
    have hk32 : k < 32 := by omega
    have go : ¬ (bt (ws x) k = true ∧ bt (ws t) k = true) → ∀ y, y = nI k + 1 → wY_verdict_60 post J (nI t) (nI x) (nI T) (nI K) (nI Wl) (nI Ml) (nI cc) bs (zS S) (zS B) (zS C) rd wt la pl (d + 1) y :=
      fun q => nm_r (nI_1 k) (ih (k + 1) (by omega) (fun j hj => by
        by_cases e : j = k
        · subst e; exact q
        · exact hn j (by omega)))
    refine br_f (nI_ge (by omega) (by omega)) ⟨zx_in hx hk32, zi (yw0 hti hx hk32) (fun q => go (fun w => by rw [q] at w; exact Bool.noConfusion w.1)) (fun q => ⟨zx_in ht hk32, ?_⟩)⟩
    exact zi (yw0 hti ht hk32) (fun q2 => go (fun w => by rw [q2] at w; exact Bool.noConfusion w.2)) (fun q2 => h5 (zb_andM hk32 (zbf q) (zbf q2)))
theorem zp_pos {x : Int32} : 0 < zp x ↔ ¬ x = 0 := by
  constructor
  · intro h z; rw [z, zp_0] at h; omega
  · intro h
    have : zp x ≠ 0 := fun z => h (zp_eq0.mp z)
    omega
theorem yw_vd212 {J1 J2 : Int32 → Prop} {t m c : Nat} (ht : t < T) (hm : m < T) (hc : c < T) (hK : K ≤ 32) (hb : zBas T cc bg S B C L) (hBi : zBit K S rs ws) (hti : zTie rs ws wr rd wt la)
    (h6 : C c ≤ C m ∧ zCfl S B C rs ws m t ∧ zCfl S B C rs ws t c ∧ (¬ ws m = 0 ∨ C c ≤ B m) → post (-6))
    (hJ : ¬ (C c ≤ C m ∧ zCfl S B C rs ws m t ∧ zCfl S B C rs ws t c ∧ (¬ ws m = 0 ∨ C c ≤ B m)) → J2 (nI (c + 1))) :
    wY_verdict_212 post J1 J2 (nI t) (nI m) (nI c) (nI T) (nI K) (nI Wl) (nI Ml) (nI cc) bs (zS S) (zS B) (zS C) rd wt la pl := by
  have hT := zBas_T hb
  have hcc := zBas_cc hb
  have hm32 : m < 32 := by omega
  have hc32 : c < 32 := by omega
  have hCm := zBas_Cl hb m
  have hCc := zBas_Cl hb c
  have hBm := zBas_B hb m
  have hz := zp_le (ws m)
  have go : ¬ (C c ≤ C m ∧ zCfl S B C rs ws m t ∧ zCfl S B C rs ws t c ∧ (¬ ws m = 0 ∨ C c ≤ B m)) → ∀ x, x = nI c + 1 → J2 x := fun q => nm_r (nI_1 c) (hJ q)
  refine And.intro (zi_in hc32) ⟨zi_in hm32, ?_⟩
  rw [zS_c (f := C) (show m < 2 ^ 31 by omega), zS_c (f := C) (show c < 2 ^ 31 by omega), zS_c (f := B) (show m < 2 ^ 31 by omega)]
  refine zi (nI_ltI (by omega) (by omega)) (fun q => go (fun w => by omega)) (fun q => ?_)
  refine yw_conf hm ht hK hb hBi hti (fun q2 => br_t rfl ?_) (fun q2 => br_f (by decide) (go fun w => q2 w.2.1))
  refine yw_conf ht hc hK hb hBi hti (fun q3 => br_t rfl ?_) (fun q3 => br_f (by decide) (go fun w => q3 w.2.2.1))
  refine yw_wc hm32 hK hBi hti (zi (nI_ltI (a := 0) (by decide) (by omega)) (fun q4 => h6 ⟨by omega, q2, q3, Or.inl (zp_pos.mp q4)⟩) (fun q4 => ⟨zi_in hc32, zi_in hm32, ?_⟩))
  exact zi (nI_ltI (by omega) (by omega)) (fun q5 => go (fun w => w.2.2.2.elim (fun y => q4 (zp_pos.mpr y)) (fun y => by omega))) (fun q5 => h6 ⟨by omega, q2, q3, Or.inr (by omega)⟩)
theorem yw_vd123 {J1 : Int32 → Prop} {t m : Nat} (ht : t < T) (hm : m < T) (hK : K ≤ 32) (hb : zBas T cc bg S B C L) (hBi : zBit K S rs ws) (hti : zTie rs ws wr rd wt la)
    (h6 : ∀ c, zDan S B C rs ws t m c → post (-6)) (hJ : (∀ c, ¬ zDan S B C rs ws t m c) → J1 (nI (m + 1))) :
    ∀ d c, c + d = T → (∀ j, j < c → ¬ zDan S B C rs ws t m j) → wY_verdict_123 post J1 (nI t) (nI m) (nI T) (nI K) (nI Wl) (nI Ml) (nI cc) bs (zS S) (zS B) (zS C) rd wt la pl (d + 1) (nI c) := by
  have hT := zBas_T hb
  have hcc := zBas_cc hb
  have ht32 : t < 32 := by omega
  have hm32 : m < 32 := by omega
  have hCm := zBas_Cl hb m
  have hBt := zBas_B hb t
  have hz := zp_le (ws t)
  intro d
  induction d with
  | zero =>
    intro c hc hn
    refine br_t (nI_le (by omega) (by omega)) (nm_r (nI_1 m) (hJ fun j hj => hn j ?_ hj))
    have := zBas_ltT hb (t := j) (by have := hj.2.1; omega)
    omega
  | succ d ih =>
    intro c hc hn
    have hcT : c < T := by omega
    have hc32 : c < 32 := by omega
    have hCc := zBas_Cl hb c
    have hj : ¬ zDan S B C rs ws t m c → wY_verdict_123 post J1 (nI t) (nI m) (nI T) (nI K) (nI Wl) (nI Ml) (nI cc) bs (zS S) (zS B) (zS C) rd wt la pl (d + 1) (nI (c + 1)) :=
      fun q => ih (c + 1) (by omega) (fun j hj => by
        by_cases e : j = c
        · subst e; exact q
        · exact hn j (by omega))
    have go : ¬ zDan S B C rs ws t m c → ∀ x, x = nI c + 1 → wY_verdict_123 post J1 (nI t) (nI m) (nI T) (nI K) (nI Wl) (nI Ml) (nI cc) bs (zS S) (zS B) (zS C) rd wt la pl (d + 1) x := fun q => nm_r (nI_1 c) (hj q)
    refine br_f (nI_ge (by omega) (by omega)) ⟨zi_in hm32, zi (zS_2 hm32 (zBas_S hb m)) (fun q1 => ⟨zi_in hc32, zi (zS_2 hc32 (zBas_S hb c)) (fun q2 => ⟨zi_in hc32, zi_in hm32, ?_⟩) (fun q2 => go fun w => q2 w.2.1)⟩) (fun q1 => go fun w => q1 w.1)⟩
    have g212 : ¬ (C c < C m ∧ zCfl S B C rs ws t m ∧ zCfl S B C rs ws m c ∧ (¬ ws t = 0 ∨ C c ≤ B t)) → wY_verdict_212 post J1 (wY_verdict_123 post J1 (nI t) (nI m) (nI T) (nI K) (nI Wl) (nI Ml) (nI cc) bs (zS S) (zS B) (zS C) rd wt la pl (d + 1)) (nI t) (nI m) (nI c) (nI T) (nI K) (nI Wl) (nI Ml) (nI cc) bs (zS S) (zS B) (zS C) rd wt la pl :=
      fun q => yw_vd212 ht hm hcT hK hb hBi hti (fun w => h6 c ⟨q1, q2, Or.inr w⟩) (fun w => hj fun y => y.2.2.elim q w)
    rw [zS_c (f := C) (show m < 2 ^ 31 by omega), zS_c (f := C) (show c < 2 ^ 31 by omega), zS_c (f := B) (show t < 2 ^ 31 by omega)]
    refine zi (nI_leI (by omega) (by omega)) (fun q3 => g212 (fun w => by omega)) (fun q3 => ?_)
    refine yw_conf ht hm hK hb hBi hti (fun q4 => br_t rfl ?_) (fun q4 => br_f (by decide) (g212 fun w => q4 w.2.1))
    refine yw_conf hm hcT hK hb hBi hti (fun q5 => br_t rfl ?_) (fun q5 => br_f (by decide) (g212 fun w => q5 w.2.2.1))
    refine yw_wc ht32 hK hBi hti (zi (nI_ltI (a := 0) (by decide) (by omega)) (fun q6 => h6 c ⟨q1, q2, Or.inl ⟨by omega, q4, q5, Or.inl (zp_pos.mp q6)⟩⟩) (fun q6 => ⟨zi_in hc32, zi_in ht32, ?_⟩))
    exact zi (nI_ltI (by omega) (by omega)) (fun q7 => g212 (fun w => w.2.2.2.elim (fun y => q6 (zp_pos.mpr y)) (fun y => by omega))) (fun q7 => h6 c ⟨q1, q2, Or.inl ⟨by omega, q4, q5, Or.inr (by omega)⟩⟩)
theorem yw_vd113 {t : Nat} (ht : t < T) (hK : K ≤ 32) (hb : zBas T cc bg S B C L) (hBi : zBit K S rs ws) (hti : zTie rs ws wr rd wt la)
    (h6 : zUns S B C rs ws t → post (-6)) (h0 : ¬ zUns S B C rs ws t → post 0) :
    ∀ d m, m + d = T → (∀ j, j < m → ∀ c, ¬ zDan S B C rs ws t j c) → wY_verdict_113 post (nI t) (nI T) (nI K) (nI Wl) (nI Ml) (nI cc) bs (zS S) (zS B) (zS C) rd wt la pl (d + 1) (nI m) := by
  have hT := zBas_T hb
  intro d
  induction d with
  | zero =>
    intro m hm hn
    refine br_t (nI_le (by omega) (by omega)) (h0 fun ⟨j, c, hj⟩ => hn j ?_ c hj)
    have := zBas_ltT hb (t := j) (by have := hj.1; omega)
    omega
  | succ d ih =>
    intro m hm hn
    refine br_f (nI_ge (by omega) (by omega)) ⟨T + 1, yw_vd123 ht (by omega) hK hb hBi hti (fun c hc => h6 ⟨m, c, hc⟩) (fun q => ih (m + 1) (by omega) (fun j hj => ?_)) T 0 (by omega) (fun j hj => absurd hj (Nat.not_lt_zero j))⟩
    by_cases e : j = m
    · subst e; exact q
    · exact hn j (by omega)
theorem yw_vd25 {t : Nat} (ht : t < T) (hK : K ≤ 32) (hb : zBas T cc bg S B C L) (hBi : zBit K S rs ws) (hti : zTie rs ws wr rd wt la)
    (h5 : zLost S B C ws t → post (-5)) (h6 : ¬ zLost S B C ws t → zUns S B C rs ws t → post (-6)) (h0 : ¬ zLost S B C ws t → ¬ zUns S B C rs ws t → post 0) :
    ∀ d x, x + d = T → (∀ j, j < x → ¬ (S j = 2 ∧ B t < C j ∧ ¬ (ws j &&& ws t) = 0)) → wY_verdict_25 post (nI t) (nI T) (nI K) (nI Wl) (nI Ml) (nI cc) bs (zS S) (zS B) (zS C) rd wt la pl (d + 1) (nI x) := by
  have hT := zBas_T hb
  have hcc := zBas_cc hb
  have ht32 : t < 32 := by omega
  have hBt := zBas_B hb t
  intro d
  induction d with
  | zero =>
    intro x hx hn
    have hl : ¬ zLost S B C ws t := fun ⟨j, hj⟩ => hn j (by have := zBas_ltT hb (t := j) (by have := hj.1; omega); omega) hj
    exact br_t (nI_le (by omega) (by omega)) ⟨T + 1, yw_vd113 ht hK hb hBi hti (h6 hl) (h0 hl) T 0 (by omega) (fun j hj => absurd hj (Nat.not_lt_zero j))⟩
  | succ d ih =>
    intro x hx hn
    have hx32 : x < 32 := by omega
    have hCx := zBas_Cl hb x
    have hj : ¬ (S x = 2 ∧ B t < C x ∧ ¬ (ws x &&& ws t) = 0) → wY_verdict_25 post (nI t) (nI T) (nI K) (nI Wl) (nI Ml) (nI cc) bs (zS S) (zS B) (zS C) rd wt la pl (d + 1) (nI (x + 1)) :=
      fun q => ih (x + 1) (by omega) (fun j hj => by
        by_cases e : j = x
        · subst e; exact q
        · exact hn j (by omega))
    refine br_f (nI_ge (by omega) (by omega)) ⟨zi_in hx32, zi (zS_2 hx32 (zBas_S hb x)) (fun q => ⟨zi_in hx32, zi_in ht32, ?_⟩) (fun q => nm_r (nI_1 x) (hj fun w => q w.1))⟩
    rw [zS_c (f := C) (show x < 2 ^ 31 by omega), zS_c (f := B) (show t < 2 ^ 31 by omega)]
    refine zi (nI_leI (by omega) (by omega)) (fun q2 => nm_r (nI_1 x) (hj fun w => by omega)) (fun q2 => ⟨K + 1, ?_⟩)
    exact yw_vd60 ht32 hx32 hK hBi hti (fun w => h5 ⟨x, q, by omega, w⟩) (fun w => hj fun y => y.2.2 w) K 0 (by omega) (fun j hj => absurd hj (Nat.not_lt_zero j))
/-- the verdict on a transaction -/
theorem yw_vd {t : Nat} (ht : t < T) (hK : K ≤ 32) (hb : zBas T cc bg S B C L) (hBi : zBit K S rs ws) (hti : zTie rs ws wr rd wt la)
    (h2 : S t ≠ 1 → post (-2))
    (h5 : S t = 1 → zLost S B C ws t → post (-5)) (h6 : S t = 1 → ¬ zLost S B C ws t → zUns S B C rs ws t → post (-6)) (h0 : S t = 1 → ¬ zLost S B C ws t → ¬ zUns S B C rs ws t → post 0) : wpY_verdict post (nI T, nI K, nI Wl, nI Ml, nI cc, bs, zS S, zS B, zS C, rd, wt, la, pl) (nI t) := by
  have hT := zBas_T hb
  have ht32 : t < 32 := by omega
  unfold wpY_verdict
  refine yw_txn hT ht (br_t rfl ⟨zi_in ht32, zi (zS_1 ht32 (zBas_S hb t)) (fun q => ⟨T + 1, ?_⟩) h2⟩)
  exact yw_vd25 ht hK hb hBi hti (h5 q) (h6 q) (h0 q) T 0 (by omega) (fun j hj => absurd hj (Nat.not_lt_zero j))
/-! writes -/
theorem yw_write {t k : Nat} {v : Int32} (ht : t < 32) (hk : k < 32) (hK : K ≤ 32) (hS : S t ≤ 3) (hW : Wl ≤ 8) (hBi : zBit K S rs ws) (hti : zTie rs ws wr rd wt la)
    (h1 : S t = 1 → (bt (ws t) k = true ∨ zp (ws t) < Wl) → rost 0 (nI T, nI K, nI Wl, nI Ml, nI cc, bs, zS S, zS B, zS C, rd, upd wt (t * 32 + k) 1, upd la (t * 32 + k) v, pl))
    (h2 : S t = 1 → ¬ bt (ws t) k = true → ¬ zp (ws t) < Wl → rost (-3) (nI T, nI K, nI Wl, nI Ml, nI cc, bs, zS S, zS B, zS C, rd, wt, la, pl))
    (h3 : S t ≠ 1 → rost (-2) (nI T, nI K, nI Wl, nI Ml, nI cc, bs, zS S, zS B, zS C, rd, wt, la, pl)) : wpY_write rost (nI T, nI K, nI Wl, nI Ml, nI cc, bs, zS S, zS B, zS C, rd, wt, la, pl) (nI t) (nI k) v := by
  have hz := zp_le (ws t)
  have go : S t = 1 → (bt (ws t) k = true ∨ zp (ws t) < Wl) → wY_write_42 rost (nI t) (nI k) v (nI T) (nI K) (nI Wl) (nI Ml) (nI cc) bs (zS S) (zS B) (zS C) rd wt la pl := by
    intro q1 q2
    refine And.intro (zx_in ht hk) ?_
    rw [zx_c ht hk, znb1]
    exact nm_e ⟨zx_in ht hk, nm_e (h1 q1 q2)⟩
  refine And.intro (zi_in ht) (zi (zS_1 ht hS) (fun q => ⟨zx_in ht hk, zi (yw0 hti ht hk) (fun q2 => ?_) (fun q2 => go q (Or.inl (zbf q2)))⟩) h3)
  exact yw_wc ht hK hBi hti (zi (nI_ltI (by omega) (by omega)) (fun q3 => go q (Or.inr q3)) (fun q3 => h2 q (zb_f.mpr q2) q3))
/-! the order -/
theorem yw_bk2 {x : Nat} (hx : x < T) (hK : K ≤ 32) (hb : zBas T cc bg S B C L) (hBi : zBit K S rs ws) (hti : zTie rs ws wr rd wt la)
    (h1 : ∀ y, zBef S B C rs ws y x → pl y = 0 → post 1) (h0 : (∀ y, zBef S B C rs ws y x → ¬ pl y = 0) → post 0) :
    ∀ d y, y + d = T → (∀ j, j < y → ¬ (zBef S B C rs ws j x ∧ pl j = 0)) → wY_blocked_2 post (nI x) (nI T) (nI K) (nI Wl) (nI Ml) (nI cc) bs (zS S) (zS B) (zS C) rd wt la pl (d + 1) (nI y) := by
  have hT := zBas_T hb
  have hcc := zBas_cc hb
  have hx32 : x < 32 := by omega
  have hBx := zBas_B hb x
  intro d
  induction d with
  | zero =>
    intro y hy hn
    refine br_t (nI_le (by omega) (by omega)) (h0 fun j hj hz => hn j ?_ ⟨hj, hz⟩)
    have := zBas_ltT hb (t := j) (by have := hj.2.1; omega)
    omega
  | succ d ih =>
    intro y hy hn
    have hy32 : y < 32 := by omega
    have hCy := zBas_Cl hb y
    have go : ¬ (zBef S B C rs ws y x ∧ pl y = 0) → ∀ z, z = nI y + 1 → wY_blocked_2 post (nI x) (nI T) (nI K) (nI Wl) (nI Ml) (nI cc) bs (zS S) (zS B) (zS C) rd wt la pl (d + 1) z :=
      fun q => nm_r (nI_1 y) (ih (y + 1) (by omega) (fun j hj => by
        by_cases e : j = y
        · subst e; exact q
        · exact hn j (by omega)))
    refine br_f (nI_ge (by omega) (by omega)) (zi (nI_eq (by omega) (by omega)) (fun q => go fun w => w.1.1 q) (fun q => ⟨zi_in hy32, zi (zS_2 hy32 (zBas_S hb y)) (fun q2 => ⟨zi_in hy32, ?_⟩) (fun q2 => go fun w => q2 w.1.2.1)⟩))
    rw [nI_clamp (show y < 2 ^ 31 by omega)]
    refine br_c (fun q3 => ⟨zi_in hy32, zi_in hx32, ?_⟩) (fun q3 => go fun w => q3 w.2)
    rw [show zS C y = nI (C y) from rfl, zS_c (f := B) (show x < 2 ^ 31 by omega)]
    refine zi (nI_ltI (by omega) (by omega)) (fun q4 => ?_) (fun q4 => h1 y ⟨q, q2, Or.inl (by omega)⟩ q3)
    refine yw_conf (by omega) hx hK hb hBi hti (fun q5 => br_t rfl (h1 y ⟨q, q2, Or.inr q5⟩ q3)) (fun q5 => br_f (by decide) (go fun w => ?_))
    exact w.1.2.2.elim (fun z => by omega) q5
theorem yw_bk {x : Nat} (hx : x < T) (hK : K ≤ 32) (hb : zBas T cc bg S B C L) (hBi : zBit K S rs ws) (hti : zTie rs ws wr rd wt la)
    (h1 : ∀ y, zBef S B C rs ws y x → pl y = 0 → post 1) (h0 : (∀ y, zBef S B C rs ws y x → ¬ pl y = 0) → post 0) : wpY_blocked post (nI T, nI K, nI Wl, nI Ml, nI cc, bs, zS S, zS B, zS C, rd, wt, la, pl) (nI x) :=
  Exists.intro (T + 1) (yw_bk2 hx hK hb hBi hti h1 h0 T 0 (by omega) (fun j hj => absurd hj (Nat.not_lt_zero j)))
theorem yw_sr43 {J : Int32 → (Nat → Int32) → (Nat → Int32) → (Nat → Int32) → (Nat → Int32) → (Nat → Int32) → (Nat → Int32) → (Nat → Int32) → (Nat → Int32) → Prop} {i p : Nat} (hi : i < 2 ^ 31) (hp : p < 2 ^ 31) (hK : K ≤ 32) (hb : zBas T cc bg S B C L) (hBi : zBit K S rs ws) (hti : zTie rs ws wr rd wt la)
    (hN : (∀ x, ¬ zCand S B C rs ws (fun y => ¬ pl y = 0) x) → rost (-7) (nI T, nI K, nI Wl, nI Ml, nI cc, bs, zS S, zS B, zS C, rd, wt, la, pl))
    (h1 : ∀ b, zBest S B C rs ws (fun y => ¬ pl y = 0) b → p = i → rost (nI b) (nI T, nI K, nI Wl, nI Ml, nI cc, bs, zS S, zS B, zS C, rd, wt, la, pl))
    (h2 : ∀ b, zBest S B C rs ws (fun y => ¬ pl y = 0) b → p ≠ i → J (nI (p + 1)) bs (zS S) (zS B) (zS C) rd wt la (upd pl b 1)) :
    ∀ d x q, x + d = T → ((q = -1 ∧ ∀ z, z < x → ¬ zCand S B C rs ws (fun y => ¬ pl y = 0) z) ∨ (∃ b, q = nI b ∧ zCand S B C rs ws (fun y => ¬ pl y = 0) b ∧ ∀ z, z < x → zCand S B C rs ws (fun y => ¬ pl y = 0) z → C b ≤ C z)) →
    wY_serialAt_43 rost J (nI i) (nI p) (nI T) (nI K) (nI Wl) (nI Ml) (nI cc) bs (zS S) (zS B) (zS C) rd wt la pl (d + 1) q (nI x) := by
  have hT := zBas_T hb
  have hcc := zBas_cc hb
  have hlt : ∀ z, zCand S B C rs ws (fun y => ¬ pl y = 0) z → z < T := fun z hz => zBas_ltT hb (t := z) (by have := hz.1; omega)
  intro d
  induction d with
  | zero =>
    intro x q hx hq
    refine br_t (nI_le (by omega) (by omega)) ?_
    rcases hq with ⟨rfl, hn⟩ | ⟨b, rfl, hc, hm⟩
    · exact br_f (by decide) (hN fun z hz => hn z (by have := hlt z hz; omega) hz)
    · have hbT := hlt b hc
      have hbest : zBest S B C rs ws (fun y => ¬ pl y = 0) b := ⟨hc, fun z hz => hm z (by have := hlt z hz; omega) hz⟩
      refine br_t (nI_pos' (by omega)) (zi (nI_eq hp hi) (fun w => h1 b hbest w) (fun w => ⟨zi_in (by omega), ?_⟩))
      rw [nI_clamp (show b < 2 ^ 31 by omega), znb1]
      exact nm_e (nm_r (nI_1 p) (h2 b hbest w))
  | succ d ih =>
    intro x q hx hq
    have hx32 : x < 32 := by omega
    have hCx := zBas_Cl hb x
    have go : ¬ zCand S B C rs ws (fun y => ¬ pl y = 0) x → ∀ z, z = nI x + 1 → wY_serialAt_43 rost J (nI i) (nI p) (nI T) (nI K) (nI Wl) (nI Ml) (nI cc) bs (zS S) (zS B) (zS C) rd wt la pl (d + 1) q z := by
      intro hn
      refine nm_r (nI_1 x) (ih (x + 1) q (by omega) ?_)
      rcases hq with ⟨e, h⟩ | ⟨b, e, hc, hm⟩
      · refine Or.inl ⟨e, fun z hz => ?_⟩
        by_cases w : z = x
        · subst w; exact hn
        · exact h z (by omega)
      · refine Or.inr ⟨b, e, hc, fun z hz hcz => ?_⟩
        by_cases w : z = x
        · subst w; exact absurd hcz hn
        · exact hm z (by omega) hcz
    refine br_f (nI_ge (by omega) (by omega)) ⟨zi_in hx32, zi (zS_2 hx32 (zBas_S hb x)) (fun q2 => ⟨zi_in hx32, ?_⟩) (fun q2 => go fun w => q2 w.1)⟩
    rw [nI_clamp (show x < 2 ^ 31 by omega)]
    refine br_c (fun q3 => ?_) (fun q3 => go fun w => w.2.1 q3)
    refine yw_bk (by omega) hK hb hBi hti (fun y h3 h4 => br_f (by decide) (go fun w => w.2.2 y h3 h4)) (fun h3 => br_t rfl ?_)
    have hcx : zCand S B C rs ws (fun y => ¬ pl y = 0) x := ⟨q2, fun w => w q3, h3⟩
    rcases hq with ⟨rfl, h⟩ | ⟨b, rfl, hc, hm⟩
    · refine br_t (by decide) (nm_r (nI_1 x) (ih (x + 1) _ (by omega) (Or.inr ⟨x, rfl, hcx, fun z hz hcz => ?_⟩)))
      by_cases w : z = x
      · subst w; exact Nat.le_refl _
      · exact absurd hcz (h z (by omega))
    · have hbT := hlt b hc
      have hCb := zBas_Cl hb b
      refine br_f (nI_pos (by omega)) ⟨zi_in hx32, zi_in (by omega), ?_⟩
      rw [show zS C x = nI (C x) from rfl, zS_c (f := C) (show b < 2 ^ 31 by omega)]
      refine zi (nI_leI (by omega) (by omega)) (fun w => nm_r (nI_1 x) (ih (x + 1) _ (by omega) (Or.inr ⟨b, rfl, hc, fun z hz hcz => ?_⟩))) (fun w => nm_r (nI_1 x) (ih (x + 1) _ (by omega) (Or.inr ⟨x, rfl, hcx, fun z hz hcz => ?_⟩)))
      · by_cases w2 : z = x
        · subst w2; exact w
        · exact hm z (by omega) hcz
      · by_cases w2 : z = x
        · subst w2; exact Nat.le_refl _
        · have := hm z (by omega) hcz; omega
theorem zCand_c {P Q : Nat → Prop} {x : Nat} (hb : zBas T cc bg S B C L) (h : ∀ y, y < 32 → (P y ↔ Q y)) : zCand S B C rs ws P x ↔ zCand S B C rs ws Q x := by
  have hT := zBas_T hb
  have h' : ∀ y, S y = 2 → (P y ↔ Q y) := fun y hy => h y (by have := zBas_ltT hb (t := y) (by omega); omega)
  constructor
  · intro ⟨a, b, c⟩
    exact ⟨a, fun z => b ((h' x a).mpr z), fun y hy => (h' y hy.2.1).mp (c y hy)⟩
  · intro ⟨a, b, c⟩
    exact ⟨a, fun z => b ((h' x a).mp z), fun y hy => (h' y hy.2.1).mpr (c y hy)⟩
theorem zBest_c {P Q : Nat → Prop} {x : Nat} (hb : zBas T cc bg S B C L) (h : ∀ y, y < 32 → (P y ↔ Q y)) : zBest S B C rs ws P x ↔ zBest S B C rs ws Q x := by
  constructor
  · intro ⟨a, b⟩; exact ⟨(zCand_c hb h).mp a, fun z hz => b z ((zCand_c hb h).mpr hz)⟩
  · intro ⟨a, b⟩; exact ⟨(zCand_c hb h).mpr a, fun z hz => b z ((zCand_c hb h).mp hz)⟩
theorem yw_sr30 {O : Nat → Nat} {n i : Nat} (hi : i < 2 ^ 31) (hK : K ≤ 32) (hb : zBas T cc bg S B C L) (hBi : zBit K S rs ws) (hti : zTie rs ws wr rd wt la)
    (hg : zGM cc S B C rs ws O n)
    (h1 : i < n → ∀ q, rost (nI (O i)) (nI T, nI K, nI Wl, nI Ml, nI cc, bs, zS S, zS B, zS C, rd, wt, la, q)) (h2 : n ≤ i → ∀ q, rost (-7) (nI T, nI K, nI Wl, nI Ml, nI cc, bs, zS S, zS B, zS C, rd, wt, la, q)) :
    ∀ d p q, p + d = T → p ≤ n → p ≤ i → (∀ y, y < 32 → (¬ q y = 0 ↔ zPl O p y)) → wY_serialAt_30 rost (nI i) (nI T) (nI K) (nI Wl) (nI Ml) (nI cc) (d + 1) (nI p) bs (zS S) (zS B) (zS C) rd wt la q := by
  have hT := zBas_T hb
  have hcc := zBas_cc hb
  have hn := hg.1
  intro d
  induction d with
  | zero =>
    intro p q hp hpn hpi hq
    exact br_t (nI_le (by omega) (by omega)) (h2 (by omega) q)
  | succ d ih =>
    intro p q hp hpn hpi hq
    have hlt : ∀ b, zBest S B C rs ws (fun y => ¬ q y = 0) b → p < n ∧ b = O p := by
      intro b hbst
      have hbst := (zBest_c (Q := zPl O p) hb hq).mp hbst
      by_cases e : p = n
      · subst e; exact absurd hbst.1 (hg.2.2 b)
      · exact ⟨by omega, zBest_un hb hbst (hg.2.1 p (by omega))⟩
    refine br_f (nI_ge (by omega) (by omega)) ⟨T + 1, yw_sr43 hi (by omega) hK hb hBi hti (fun h => h2 ?_ q) (fun b hbst e => ?_) (fun b hbst e => ?_) T 0 _ (by omega) (Or.inl ⟨rfl, fun z hz => absurd hz (Nat.not_lt_zero z)⟩)⟩
    · refine Classical.byContradiction fun w => h (O p) ((zCand_c (Q := zPl O p) hb hq).mpr (hg.2.1 p (by omega)).1)
    · have ⟨a, b'⟩ := hlt b hbst
      subst e
      rw [b']
      exact h1 a q
    · have ⟨a, b'⟩ := hlt b hbst
      refine ih (p + 1) _ (by omega) (by omega) (by omega) (fun y hy => ?_)
      by_cases w : y = b
      · subst w
        rw [pk_us]
        exact ⟨fun _ => ⟨p, by omega, b'.symm⟩, fun _ => by decide⟩
      · rw [pk_un w, hq y hy]
        constructor
        · intro ⟨j, u, v⟩; exact ⟨j, by omega, v⟩
        · intro ⟨j, u, v⟩
          refine ⟨j, ?_, v⟩
          have : j ≠ p := fun z => w (by rw [b', ← v, z])
          omega
theorem yw_sr9 {O : Nat → Nat} {n i : Nat} (hi : i < 2 ^ 31) (hK : K ≤ 32) (hb : zBas T cc bg S B C L) (hBi : zBit K S rs ws) (hti : zTie rs ws wr rd wt la)
    (hg : zGM cc S B C rs ws O n)
    (h1 : i < n → ∀ q, rost (nI (O i)) (nI T, nI K, nI Wl, nI Ml, nI cc, bs, zS S, zS B, zS C, rd, wt, la, q)) (h2 : n ≤ i → ∀ q, rost (-7) (nI T, nI K, nI Wl, nI Ml, nI cc, bs, zS S, zS B, zS C, rd, wt, la, q)) :
    ∀ d x, x + d = 32 → wY_serialAt_9 rost (nI i) (nI T) (nI K) (nI Wl) (nI Ml) (nI cc) (d + 1) (nI x) bs (zS S) (zS B) (zS C) rd wt la (zcl' pl x) := by
  intro d
  induction d with
  | zero =>
    intro x hx
    refine br_t (nI_le (a := 32) (by omega) (by omega)) ⟨T + 1, yw_sr30 hi hK hb hBi hti hg h1 h2 T 0 _ (by omega) (Nat.zero_le n) (Nat.zero_le i) (fun y hy => ?_)⟩
    rw [show zcl' pl x y = 0 from if_pos (by omega)]
    exact ⟨fun w => absurd rfl w, fun ⟨j, a, _⟩ => absurd a (Nat.not_lt_zero j)⟩
  | succ d ih =>
    intro x hx
    refine br_f (nI_ge (b := 32) (by omega) (by decide)) ⟨zi_in (by omega), ?_⟩
    rw [nI_clamp (show x < 2 ^ 31 by omega), znb0]
    exact nm_r (zcl_s' pl x) (nm_r (nI_1 x) (ih (x + 1) (by omega)))
theorem yw_sr {O : Nat → Nat} {n i : Nat} (hi : i < 2 ^ 31) (hK : K ≤ 32) (hb : zBas T cc bg S B C L) (hBi : zBit K S rs ws) (hti : zTie rs ws wr rd wt la)
    (hg : zGM cc S B C rs ws O n)
    (h1 : i < n → ∀ q, rost (nI (O i)) (nI T, nI K, nI Wl, nI Ml, nI cc, bs, zS S, zS B, zS C, rd, wt, la, q)) (h2 : n ≤ i → ∀ q, rost (-7) (nI T, nI K, nI Wl, nI Ml, nI cc, bs, zS S, zS B, zS C, rd, wt, la, q)) : wpY_serialAt rost (nI T, nI K, nI Wl, nI Ml, nI cc, bs, zS S, zS B, zS C, rd, wt, la, pl) (nI i) := by
  have h := yw_sr9 (pl := pl) hi hK hb hBi hti hg h1 h2 32 0 (by omega)
  rw [zcl_0'] at h
  exact br_t (nI_pos' hi) ⟨33, h⟩
end
end
section
/-! the reference's walks, third part: settle, scans -/
section
variable {T K Wl Ml cc bg kp hz os : Nat} {oc : Int32} {bs : Nat → Int32} {S B C : Nat → Nat} {rs ws : Nat → Int32} {FO : Nat → Nat} {ea wr : Nat → Int32} {L : Nat → Nat} {od : Nat → Int32} {rd wt la pl : Nat → Int32}
variable {post : Int32 → Prop} {qost : SY → Prop} {rost : Int32 → SY → Prop}
theorem yw_se67 (hT : T ≤ 32) (hp : rost 0 (nI T, nI K, nI Wl, nI Ml, 0, bs, zS (zcl S T), zS (zcl B T), zS (zcl C T), zcr rd 0 (T * 32), zcr wt 0 (T * 32), zcr la 0 (T * 32), pl)) :
    ∀ d i, i + d = T → wY_settle_67 rost (d + 1) (nI i) (nI T) (nI K) (nI Wl) (nI Ml) 0 bs (zS (zcl S i)) (zS (zcl B i)) (zS (zcl C i)) (zcr rd 0 (i * 32)) (zcr wt 0 (i * 32)) (zcr la 0 (i * 32)) pl := by
  intro d
  induction d with
  | zero =>
    intro i hi
    obtain rfl : i = T := by omega
    exact br_t (nI_le (Nat.le_refl _) (by omega)) hp
  | succ d ih =>
    intro i hi
    have hi32 : i < 32 := by omega
    have z : ∀ f : Nat → Nat, upd (zS (zcl f i)) (nI i).toNatClampNeg 0 = zS (zcl f (i + 1)) := fun f => by
      rw [← zcl_s f i]; exact zS_ut (v := 0) (by omega) rfl rfl
    refine br_f (nI_ge (by omega) (by omega)) ⟨zi_in hi32, nm_r (z S) ⟨zi_in hi32, nm_r (z B) ⟨zi_in hi32, nm_r (z C) (yw_em (cc := 0) hi32 ?_)⟩⟩⟩
    rw [zcr_c, zcr_c, zcr_c]
    exact nm_r (nI_1 i) (ih (i + 1) (by omega))
theorem yw_se31 (hb : zBas T cc bg S B C L) (hK : K ≤ 32) (hti : zTie rs ws wr rd wt la)
    (hp : rost 0 (nI T, nI K, nI Wl, nI Ml, 0, zbv bs ws wr L cc K, zS (zcl S T), zS (zcl B T), zS (zcl C T), zcr rd 0 (T * 32), zcr wt 0 (T * 32), zcr la 0 (T * 32), pl)) :
    ∀ d i, i + d = K → wY_settle_31 rost (nI T) (nI K) (nI Wl) (nI Ml) (nI cc) (d + 1) (nI i) (zbv bs ws wr L cc i) (zS S) (zS B) (zS C) rd wt la pl := by
  have hT := zBas_T hb
  intro d
  induction d with
  | zero =>
    intro i hi
    obtain rfl : i = K := by omega
    refine br_t (nI_le (Nat.le_refl _) (by omega)) ⟨T + 1, ?_⟩
    have h := yw_se67 hT hp T 0 (by omega)
    rw [zcl_0, zcl_0, zcl_0, Nat.zero_mul, zcr_0, zcr_0, zcr_0] at h
    exact h
  | succ d ih =>
    intro i hi
    refine br_f (nI_ge (by omega) (by omega)) (yw_sa (Nat.le_refl cc) (by omega) hb hti ⟨zi_in (by omega), ?_⟩)
    refine nm_r (e' := zbv bs ws wr L cc (i + 1)) (by rw [nI_clamp (show i < 2 ^ 31 by omega), zbv_s]) (nm_r (nI_1 i) (ih (i + 1) (by omega)))
theorem yw_se2 (hb : zBas T cc bg S B C L) (hK : K ≤ 32) (hti : zTie rs ws wr rd wt la)
    (h4 : (∃ t, S t = 1) → rost (-4) (nI T, nI K, nI Wl, nI Ml, nI cc, bs, zS S, zS B, zS C, rd, wt, la, pl))
    (hp : (∀ t, S t ≠ 1) → rost 0 (nI T, nI K, nI Wl, nI Ml, 0, zbv bs ws wr L cc K, zS (zcl S T), zS (zcl B T), zS (zcl C T), zcr rd 0 (T * 32), zcr wt 0 (T * 32), zcr la 0 (T * 32), pl)) :
    ∀ d i, i + d = T → (∀ s, s < i → S s ≠ 1) → wY_settle_2 rost (nI T) (nI K) (nI Wl) (nI Ml) (nI cc) bs (zS S) (zS B) (zS C) rd wt la pl (d + 1) (nI i) := by
  have hT := zBas_T hb
  intro d
  induction d with
  | zero =>
    intro i hi hn
    refine br_t (nI_le (by omega) (by omega)) ⟨K + 1, ?_⟩
    have h := yw_se31 (pl := pl) (Wl := Wl) (Ml := Ml) hb hK hti (hp fun t z => hn t (by have := zBas_ltT hb (t := t) (by omega); omega) z) K 0 (by omega)
    rw [zbv_0] at h
    exact h
  | succ d ih =>
    intro i hi hn
    refine br_f (nI_ge (by omega) (by omega)) ⟨zi_in (by omega), zi (zS_1 (by omega) (zBas_S hb i)) (fun z => h4 ⟨i, z⟩) (fun z => nm_r (nI_1 i) (ih (i + 1) (by omega) (fun s hs => ?_)))⟩
    by_cases e : s = i
    · subst e; exact z
    · exact hn s (by omega)
theorem yw_settle (hb : zBas T cc bg S B C L) (hK : K ≤ 32) (hti : zTie rs ws wr rd wt la)
    (h4 : (∃ t, S t = 1) → rost (-4) (nI T, nI K, nI Wl, nI Ml, nI cc, bs, zS S, zS B, zS C, rd, wt, la, pl))
    (hp : (∀ t, S t ≠ 1) → rost 0 (nI T, nI K, nI Wl, nI Ml, 0, zbv bs ws wr L cc K, zS (zcl S T), zS (zcl B T), zS (zcl C T), zcr rd 0 (T * 32), zcr wt 0 (T * 32), zcr la 0 (T * 32), pl)) : wpY_settle rost (nI T, nI K, nI Wl, nI Ml, nI cc, bs, zS S, zS B, zS C, rd, wt, la, pl) :=
  Exists.intro (T + 1) (yw_se2 hb hK hti h4 hp T 0 (by omega) (fun s hs => absurd hs (Nat.not_lt_zero s)))
/-! scans -/
theorem yw_next_l {t lo hi : Nat} (ht : t < 32) (hhi : hi < 32) (hb : zBas T cc bg S B C L) (hti : zTie rs ws wr rd wt la)
    (h7 : (∀ k, lo ≤ k → k ≤ hi → zw bs ws wr B L t k = -7) → wY_next_66 rost (nI t) (nI lo) (-7) (nI hi) (nI T) (nI K) (nI Wl) (nI Ml) (nI cc) bs (zS S) (zS B) (zS C) rd wt la pl)
    (hf : ∀ k, lo ≤ k → k ≤ hi → ¬ zw bs ws wr B L t k = -7 → (∀ j, lo ≤ j → j < k → zw bs ws wr B L t j = -7) → wY_next_66 rost (nI t) (nI lo) (nI k) (nI k) (nI T) (nI K) (nI Wl) (nI Ml) (nI cc) bs (zS S) (zS B) (zS C) rd wt la pl) :
    ∀ d i f, lo + d = i → i ≤ hi + 1 → ((f = -7 ∧ ∀ j, i ≤ j → j ≤ hi → zw bs ws wr B L t j = -7) ∨ (∃ k, i ≤ k ∧ k ≤ hi ∧ f = nI k ∧ ¬ zw bs ws wr B L t k = -7 ∧ ∀ j, i ≤ j → j < k → zw bs ws wr B L t j = -7)) →
    wY_next_24 rost (nI t) (nI lo) (nI hi) (nI T) (nI K) (nI Wl) (nI Ml) (nI cc) bs (zS S) (zS B) (zS C) rd wt la pl (d + 1) f (nI i + (-1)) := by
  intro d
  induction d with
  | zero =>
    intro i f hi' hl hn
    obtain rfl : i = lo := by omega
    refine br_t (z_pm i (by omega)) ?_
    rcases hn with ⟨rfl, h⟩ | ⟨k, a, b, rfl, c, e⟩
    · exact br_t rfl (h7 h)
    · exact br_f (zn7 k (by omega)) (hf k a b c e)
  | succ d ih =>
    intro i f hi' hl hn
    obtain ⟨p, rfl⟩ : ∃ p, i = p + 1 := ⟨i - 1, by omega⟩
    rw [pk_m1]
    refine br_f (nI_nlt (by omega) (by omega)) (yw_view ht (by omega) hb hti (br_c (fun z => nm_e (ih p f (by omega) (by omega) ?_)) (fun z => nm_e (ih p _ (by omega) (by omega) (Or.inr ⟨p, Nat.le_refl p, by omega, rfl, z, fun j h1 h2 => by omega⟩)))))
    rcases hn with ⟨e, h⟩ | ⟨k, a, b, e, c, h⟩
    · refine Or.inl ⟨e, fun j h1 h2 => ?_⟩
      by_cases w : j = p
      · subst w; exact z
      · exact h j (by omega) h2
    · refine Or.inr ⟨k, by omega, b, e, c, fun j h1 h2 => ?_⟩
      by_cases w : j = p
      · subst w; exact z
      · exact h j (by omega) h2
theorem yw_prev_l {t lo hi : Nat} (ht : t < 32) (hhi : hi < 32) (hb : zBas T cc bg S B C L) (hti : zTie rs ws wr rd wt la)
    (h7 : (∀ k, lo ≤ k → k ≤ hi → zw bs ws wr B L t k = -7) → wY_prev_66 rost (nI t) (nI hi) (-7) (nI lo) (nI T) (nI K) (nI Wl) (nI Ml) (nI cc) bs (zS S) (zS B) (zS C) rd wt la pl)
    (hf : ∀ k, lo ≤ k → k ≤ hi → ¬ zw bs ws wr B L t k = -7 → (∀ j, k < j → j ≤ hi → zw bs ws wr B L t j = -7) → wY_prev_66 rost (nI t) (nI hi) (nI k) (nI k) (nI T) (nI K) (nI Wl) (nI Ml) (nI cc) bs (zS S) (zS B) (zS C) rd wt la pl) :
    ∀ d i f, i + d = hi + 1 → lo ≤ i → ((f = -7 ∧ ∀ j, lo ≤ j → j < i → zw bs ws wr B L t j = -7) ∨ (∃ k, lo ≤ k ∧ k < i ∧ f = nI k ∧ ¬ zw bs ws wr B L t k = -7 ∧ ∀ j, k < j → j < i → zw bs ws wr B L t j = -7)) →
    wY_prev_24 rost (nI t) (nI lo) (nI hi) (nI T) (nI K) (nI Wl) (nI Ml) (nI cc) bs (zS S) (zS B) (zS C) rd wt la pl (d + 1) f (nI i) := by
  intro d
  induction d with
  | zero =>
    intro i f hi' hl hn
    refine br_t (nI_lt (by omega) (by omega)) ?_
    rcases hn with ⟨rfl, h⟩ | ⟨k, a, b, rfl, c, e⟩
    · exact br_t rfl (h7 fun k h1 h2 => h k h1 (by omega))
    · exact br_f (zn7 k (by omega)) (hf k a (by omega) c (fun j h1 h2 => e j h1 (by omega)))
  | succ d ih =>
    intro i f hi' hl hn
    refine br_f (nI_nlt (by omega) (by omega)) (yw_view ht (by omega) hb hti (br_c (fun z => nm_r (nI_1 i) (ih (i + 1) f (by omega) (by omega) ?_)) (fun z => nm_r (nI_1 i) (ih (i + 1) _ (by omega) (by omega) (Or.inr ⟨i, by omega, by omega, rfl, z, fun j h1 h2 => by omega⟩)))))
    rcases hn with ⟨e, h⟩ | ⟨k, a, b, e, c, h⟩
    · refine Or.inl ⟨e, fun j h1 h2 => ?_⟩
      by_cases w : j = i
      · subst w; exact z
      · exact h j h1 (by omega)
    · refine Or.inr ⟨k, a, by omega, e, c, fun j h1 h2 => ?_⟩
      by_cases w : j = i
      · subst w; exact z
      · exact h j h1 (by omega)
end
end
section
/-! the pure laws: verdicts, the greedy order, what every call keeps -/
section
variable {T K Wl Ml cc bg kp hz os : Nat} {oc : Int32} {bs : Nat → Int32} {S B C : Nat → Nat} {rs ws : Nat → Int32} {FO : Nat → Nat} {ea wr : Nat → Int32} {L : Nat → Nat} {od : Nat → Int32} {rd wt la pl : Nat → Int32}
theorem zLO_ex (cc : Nat) (B L : Nat → Nat) (rs ws : Nat → Int32) (t : Nat) : ∃ n, zLO cc B L rs ws t n := by
  by_cases h : ∃ c, B t < c ∧ c ≤ cc ∧ ¬ (rs t &&& ws (L c)) = 0
  · obtain ⟨n, ⟨a, b, c⟩, hm⟩ := pk_least _ h
    refine ⟨n, Or.inr ⟨a, b, c, fun j h1 h2 => ?_⟩⟩
    exact Classical.byContradiction fun w => hm j h2 ⟨h1, by omega, w⟩
  · refine ⟨0, Or.inl ⟨rfl, fun c h1 h2 => ?_⟩⟩
    exact Classical.byContradiction fun w => h ⟨c, h1, h2, w⟩
theorem zLO_le {t n c : Nat} (h : zLO cc B L rs ws t n) (h1 : B t < c) (h2 : c ≤ cc) (h3 : ¬ (rs t &&& ws (L c)) = 0) : n ≠ 0 ∧ n ≤ c ∧ B t < n := by
  rcases h with ⟨_, a⟩ | ⟨a, b, _, d⟩
  · exact absurd (a c h1 h2) h3
  · refine ⟨by omega, ?_, a⟩
    exact Classical.byContradiction fun w => h3 (d c h1 (by omega))
theorem zUns_mp {t : Nat} (hb : zBas T cc bg S B C L) (hF : ∀ x, S x = 2 → zFO B C L rs ws x (FO x)) (h : zUns S B C rs ws t) :
    (∃ c, zDF cc B rs ws FO L t c) ∨ ∃ n c, n ≠ 0 ∧ zLO cc B L rs ws t n ∧ zDM cc B rs ws L t n c := by
  obtain ⟨m, c, hm, hc, h | h⟩ := h
  · obtain ⟨h1, h2, h3, h4⟩ := h
    have ⟨m1, m2, m3, m4⟩ := zBas_C hb hm
    have ⟨c1, c2, c3, c4⟩ := zBas_C hb hc
    have k1 : B t < C m := Classical.byContradiction fun w => h2.2.2.2.2.2 ⟨hm, by omega⟩
    have k2 : B m < C c := Classical.byContradiction fun w => h3.2.2.2.2.2 ⟨hc, by omega⟩
    have k3 := zLO_le (c := C c) (hF m hm) k2 (by omega) (by rw [c4]; exact h3.2.2.2.1)
    refine Or.inl ⟨C m, k1, m2, ?_, ?_, ?_⟩
    · rw [m4]; exact k3.1
    · rw [m4]; exact h2.2.2.2.1
    · rw [m4]; exact h4.elim Or.inl (fun w => Or.inr (by omega))
  · obtain ⟨h1, h2, h3, h4⟩ := h
    have ⟨m1, m2, m3, m4⟩ := zBas_C hb hm
    have ⟨c1, c2, c3, c4⟩ := zBas_C hb hc
    have k2 : B t < C c := Classical.byContradiction fun w => h3.2.2.2.2.2 ⟨hc, by omega⟩
    obtain ⟨n, hn⟩ := zLO_ex cc B L rs ws t
    have k3 := zLO_le (c := C c) hn k2 c2 (by rw [c4]; exact h3.2.2.2.1)
    refine Or.inr ⟨n, C m, k3.1, hn, by omega, m2, ?_, ?_⟩
    · rw [m4]; exact h2.2.2.2.1
    · rw [m4]; exact h4.elim Or.inl (fun w => Or.inr (by omega))
theorem zUns_df {t c : Nat} (hb : zBas T cc bg S B C L) (hF : ∀ x, S x = 2 → zFO B C L rs ws x (FO x)) (hS : S t = 1) (h : zDF cc B rs ws FO L t c) : zUns S B C rs ws t := by
  obtain ⟨h1, h2, h3, h4, h5⟩ := h
  have ⟨l1, l2⟩ := zBas_L hb (c := c) (by omega) h2
  have ⟨m1, m2, m3, m4⟩ := zBas_C hb l1
  rcases hF _ l1 with ⟨a, _⟩ | ⟨a, b, d, e⟩
  · exact absurd a h3
  · have ⟨f1, f2⟩ := zBas_L hb (c := FO (L c)) (by omega) (by omega)
    have ⟨g1, g2, g3, g4⟩ := zBas_C hb f1
    refine ⟨L c, L (FO (L c)), l1, f1, Or.inl ⟨by omega, ⟨fun w => ?_, Or.inl hS, Or.inr l1, h4, fun w => by omega, fun w => by omega⟩, ⟨fun w => ?_, Or.inr l1, Or.inr f1, d, fun w => by omega, fun w => by omega⟩, h5.elim Or.inl (fun w => Or.inr (by omega))⟩⟩
    · rw [← w] at l1; omega
    · rw [← w] at f2; omega
theorem zUns_dm {t n c : Nat} (hb : zBas T cc bg S B C L) (hS : S t = 1) (hn : n ≠ 0) (hl : zLO cc B L rs ws t n) (h : zDM cc B rs ws L t n c) : zUns S B C rs ws t := by
  obtain ⟨h1, h2, h3, h4⟩ := h
  rcases hl with ⟨a, _⟩ | ⟨a, b, d, e⟩
  · exact absurd a hn
  · have ⟨l1, l2⟩ := zBas_L hb (c := c) (by omega) h2
    have ⟨f1, f2⟩ := zBas_L hb (c := n) (by omega) (by omega)
    refine ⟨L c, L n, l1, f1, Or.inr ⟨by omega, ⟨fun w => ?_, Or.inr l1, Or.inl hS, h3, fun w => by omega, fun w => by omega⟩, ⟨fun w => ?_, Or.inl hS, Or.inr f1, d, fun w => by omega, fun w => by omega⟩, h4.elim Or.inl (fun w => Or.inr (by omega))⟩⟩
    · rw [w] at l1; omega
    · rw [← w] at f1; omega
/-! the greedy order exists -/
theorem zPl_u {O : Nat → Nat} {m b i : Nat} (h : i ≤ m) : zPl (zU O m b) i = zPl O i := by
  funext y
  refine propext ⟨fun ⟨j, a, c⟩ => ⟨j, a, ?_⟩, fun ⟨j, a, c⟩ => ⟨j, a, ?_⟩⟩
  · rw [zU_n (by omega)] at c; exact c
  · rw [zU_n (by omega)]; exact c
theorem zGM_ex (hb : zBas T cc bg S B C L) : ∃ O n, zGM cc S B C rs ws O n := by
  have st : ∀ m, ∃ O n, n ≤ m ∧ (∀ i, i < n → zBest S B C rs ws (zPl O i) (O i)) ∧ (n = m ∨ ∀ x, ¬ zCand S B C rs ws (zPl O n) x) := by
    intro m
    induction m with
    | zero => exact ⟨fun _ => 0, 0, Nat.le_refl 0, fun i hi => absurd hi (Nat.not_lt_zero i), Or.inl rfl⟩
    | succ m ih =>
      obtain ⟨O, n, h1, h2, h3⟩ := ih
      by_cases hc : ∃ x, zCand S B C rs ws (zPl O n) x
      · have hnm : n = m := h3.elim id (fun w => absurd hc (fun ⟨x, hx⟩ => w x hx))
        subst hnm
        obtain ⟨c, ⟨b, hb1, hb2⟩, hm⟩ := pk_least (fun c => ∃ x, zCand S B C rs ws (zPl O n) x ∧ C x = c) (by obtain ⟨x, hx⟩ := hc; exact ⟨C x, x, hx, rfl⟩)
        refine ⟨zU O n b, n + 1, Nat.le_refl _, fun i hi => ?_, Or.inl rfl⟩
        rw [zPl_u (by omega)]
        by_cases e : i = n
        · subst e
          rw [zU_s]
          refine ⟨hb1, fun z hz => ?_⟩
          exact Classical.byContradiction fun w => hm (C z) (by omega) ⟨z, hz, rfl⟩
        · rw [zU_n e]; exact h2 i (by omega)
      · exact ⟨O, n, by omega, h2, Or.inr fun x hx => hc ⟨x, hx⟩⟩
  obtain ⟨O, n, h1, h2, h3⟩ := st cc
  refine ⟨O, n, h1, h2, ?_⟩
  rcases h3 with e | h3
  · subst e
    intro x hx
    have hC : ∀ j, j < n → 1 ≤ C (O j) ∧ C (O j) ≤ n := fun j hj => ⟨(zBas_C hb (h2 j hj).1.1).1, (zBas_C hb (h2 j hj).1.1).2.1⟩
    have hx1 := zBas_C hb hx.1
    have hm := covers_all n ((List.range n).map (fun j => C (O j) - 1)) (by
      rw [List.Nodup, List.pairwise_map]
      refine List.Pairwise.imp_of_mem ?_ List.pairwise_lt_range
      intro a b ha hb' hab e
      have ha := List.mem_range.mp ha
      have hb' := List.mem_range.mp hb'
      have := hC a ha
      have := hC b hb'
      have e2 : O a = O b := zBas_inj hb (h2 a ha).1.1 (h2 b hb').1.1 (by omega)
      exact (h2 b hb').1.2.1 ⟨a, hab, e2⟩) (by
      intro y hy
      obtain ⟨j, hj, rfl⟩ := List.mem_map.mp hy
      have := hC j (List.mem_range.mp hj)
      omega) (by rw [List.length_map, List.length_range]) (C x - 1) (by omega)
    obtain ⟨j, hj, e⟩ := List.mem_map.mp hm
    have hj := List.mem_range.mp hj
    have := hC j hj
    exact hx.2.1 ⟨j, hj, zBas_inj hb (h2 j hj).1.1 hx.1 (by omega)⟩
  · exact h3
/-! what depends on the committed alone -/
def zAg (S B C : Nat → Nat) (rs ws : Nat → Int32) (S' B' C' : Nat → Nat) (rs' ws' : Nat → Int32) : Prop :=
  ∀ x, (S' x = 2 ↔ S x = 2) ∧ (S x = 2 → B' x = B x ∧ C' x = C x ∧ rs' x = rs x ∧ ws' x = ws x)
theorem zAg_sy {S' B' C' : Nat → Nat} {rs' ws' : Nat → Int32} (h : zAg S B C rs ws S' B' C' rs' ws') : zAg S' B' C' rs' ws' S B C rs ws :=
  fun x => ⟨(h x).1.symm, fun hx => by have ⟨a, b, c, d⟩ := (h x).2 ((h x).1.mp hx); exact ⟨a.symm, b.symm, c.symm, d.symm⟩⟩
theorem zCfl_ag {S' B' C' : Nat → Nat} {rs' ws' : Nat → Int32} {x y : Nat} (h : zAg S B C rs ws S' B' C' rs' ws') (hx : S x = 2) (hy : S y = 2) (q : zCfl S B C rs ws x y) : zCfl S' B' C' rs' ws' x y := by
  have ⟨a1, a2, a3, a4⟩ := (h x).2 hx
  have ⟨b1, b2, b3, b4⟩ := (h y).2 hy
  have ha := (h x).1.mpr hx
  have hb := (h y).1.mpr hy
  obtain ⟨q1, q2, q3, q4, q5, q6⟩ := q
  refine ⟨q1, Or.inr ha, Or.inr hb, ?_, fun w => q5 ⟨hx, ?_⟩, fun w => q6 ⟨hy, ?_⟩⟩
  · rw [a3, b4]; exact q4
  · rw [← a2, ← b1]; exact w.2
  · rw [← b2, ← a1]; exact w.2
theorem zBef_ag {S' B' C' : Nat → Nat} {rs' ws' : Nat → Int32} {x y : Nat} (h : zAg S B C rs ws S' B' C' rs' ws') (hx : S x = 2) (q : zBef S B C rs ws y x) : zBef S' B' C' rs' ws' y x := by
  obtain ⟨q1, q2, q3⟩ := q
  have ⟨a1, a2, a3, a4⟩ := (h x).2 hx
  have ⟨b1, b2, b3, b4⟩ := (h y).2 q2
  refine ⟨q1, (h y).1.mpr q2, q3.elim (fun w => Or.inl ?_) (fun w => Or.inr (zCfl_ag h q2 hx w))⟩
  rw [b2, a1]; exact w
theorem zCand_ag {S' B' C' : Nat → Nat} {rs' ws' : Nat → Int32} {x : Nat} {P : Nat → Prop} (h : zAg S B C rs ws S' B' C' rs' ws') (q : zCand S B C rs ws P x) : zCand S' B' C' rs' ws' P x := by
  obtain ⟨q1, q2, q3⟩ := q
  have q1' := (h x).1.mpr q1
  exact ⟨q1', q2, fun y hy => q3 y (zBef_ag (zAg_sy h) q1' hy)⟩
theorem zGM_ag {S' B' C' : Nat → Nat} {rs' ws' : Nat → Int32} {O : Nat → Nat} {n : Nat} (h : zAg S B C rs ws S' B' C' rs' ws') (q : zGM cc S B C rs ws O n) : zGM cc S' B' C' rs' ws' O n := by
  obtain ⟨q1, q2, q3⟩ := q
  refine ⟨q1, fun i hi => ?_, fun x hx => q3 x (zCand_ag (zAg_sy h) hx)⟩
  have ⟨a, b⟩ := q2 i hi
  refine ⟨zCand_ag h a, fun z hz => ?_⟩
  have hz' := zCand_ag (zAg_sy h) hz
  rw [((h _).2 a.1).2.1, ((h _).2 hz'.1).2.1]
  exact b z hz'
theorem zCom_ag {S' B' C' : Nat → Nat} {rs' ws' : Nat → Int32} {FO' : Nat → Nat} {ea' : Nat → Int32} (hb : zBas T cc bg S B C L) (h : zAg S B C rs ws S' B' C' rs' ws') (hF : ∀ x, S x = 2 → FO' x = FO x ∧ ea' x = ea x)
    (q : zCom cc S B C rs ws FO ea L os oc od) : zCom cc S' B' C' rs' ws' FO' ea' L os oc od := by
  obtain ⟨q1, q2, q3⟩ := q
  refine ⟨fun x hx => ?_, fun x hx y hy => ?_, fun ho => ?_⟩
  · have hx := (h x).1.mp hx
    have ⟨a1, a2, a3, a4⟩ := (h x).2 hx
    have hxC := zBas_C hb hx
    have hl : ∀ c, B x < c → c ≤ C x - 1 → ws' (L c) = ws (L c) := fun c h1 h2 => ((h (L c)).2 (zBas_L hb (c := c) (by omega) (by omega)).1).2.2.2
    unfold zFO
    rw [(hF x hx).1, a2]
    rcases q1 x hx with ⟨e, w⟩ | ⟨w1, w2, w3, w4⟩
    · refine Or.inl ⟨e, fun c h1 h2 => ?_⟩
      rw [a1] at h1
      rw [a3, hl c h1 h2]; exact w c h1 h2
    · refine Or.inr ⟨by rw [a1]; exact w1, w2, ?_, fun c h1 h2 => ?_⟩
      · rw [a3, hl _ w1 w2]; exact w3
      · rw [a1] at h1
        rw [a3, hl c h1 (by omega)]; exact w4 c h1 h2
  · have hx' := (h x).1.mp hx
    rw [(hF x hx').2, q2 x hx' y hy]
    exact ⟨fun w => zBef_ag h hx' w, fun w => zBef_ag (zAg_sy h) hx w⟩
  · obtain ⟨O, a, b⟩ := q3 ho
    exact ⟨O, zGM_ag h a, b⟩
theorem zm_mono {f g : Nat → Nat} : ∀ n, (∀ k, k < n → f k ≤ g k) → zm f n ≤ zm g n := by
  intro n
  induction n with
  | zero => intro _; exact Nat.le_refl 0
  | succ n ih =>
    intro h
    show zm f n + f n ≤ zm g n + g n
    have := ih (fun k hk => h k (by omega))
    have := h n (by omega)
    omega
theorem zKS_mono {h h' : Nat} (hh : h ≤ h') : zKS T S C rs h' ≤ zKS T S C rs h := by
  refine zm_mono T (fun k _ => ?_)
  show (if S k = 1 ∨ (S k = 2 ∧ h' < C k) then zp (rs k) else 0) ≤ (if S k = 1 ∨ (S k = 2 ∧ h < C k) then zp (rs k) else 0)
  by_cases q : S k = 1 ∨ (S k = 2 ∧ h' < C k)
  · rw [if_pos q, if_pos (q.elim Or.inl (fun w => Or.inr ⟨w.1, by omega⟩))]
    exact Nat.le_refl _
  · rw [if_neg q]; exact Nat.zero_le _
/-! a look -/
theorem zI_look {t lo hi : Nat} (hI : zInv T K Wl Ml cc bg kp hz os oc S B C rs ws FO ea wr L od rd wt la) (hS : S t = 1) (hlo : lo ≤ hi) (hhi : hi < K)
    (hkM : kp + zp (zf rs ws t lo hi) ≤ Ml) :
    zInv T K Wl Ml cc bg (kp + zp (zf rs ws t lo hi)) hz os oc S B C (upd rs t (rs t ||| zf rs ws t lo hi)) ws FO ea wr L od (zmk rd wt (t * 32 + lo) (t * 32 + hi + 1)) wt la := by
  obtain ⟨⟨hK, hW, hM⟩, hb, hH, ⟨hk1, hk2⟩, hBi, hti, hCo⟩ := hI
  have hT := zBas_T hb
  have htT := zBas_ltT hb (t := t) (by omega)
  have hbt := fun k hk => zf_bt (rs := rs) (ws := ws) (t := t) (lo := lo) (hi := hi) (k := k) (by omega) (by omega) hk
  refine ⟨⟨hK, hW, hM⟩, hb, hH, ⟨?_, hkM⟩, fun x => ⟨fun k hk => ⟨?_, ((hBi x).1 k hk).2⟩, fun q => ?_⟩, fun x k hx hk => ?_, zCom_ag hb (fun x => ⟨Iff.rfl, fun hx => ⟨rfl, rfl, ?_, rfl⟩⟩) (fun x _ => ⟨rfl, rfl⟩) hCo⟩
  · have e := zm_upd (f := zKf S C rs hz) (g := zKf S C (upd rs t (rs t ||| zf rs ws t lo hi)) hz) (t := t) T htT (fun k _ hn => by
      show (if S k = 1 ∨ (S k = 2 ∧ hz < C k) then zp (rs k) else 0) = (if S k = 1 ∨ (S k = 2 ∧ hz < C k) then zp (upd rs t (rs t ||| zf rs ws t lo hi) k) else 0)
      rw [pk_un hn])
    have e1 : zKf S C rs hz t = zp (rs t) := if_pos (Or.inl hS)
    have e2 : zKf S C (upd rs t (rs t ||| zf rs ws t lo hi)) hz t = zp (rs t ||| zf rs ws t lo hi) := by
      refine (if_pos (Or.inl hS)).trans ?_
      rw [pk_us]
    rw [zp_or (fun k hk w => by rw [((hbt k hk).mp w.2).2.2] at w; exact Bool.noConfusion w.1)] at e2
    rw [hk1]
    unfold zKS
    omega
  · by_cases e : x = t
    · subst e
      rw [pk_us, b_or, ((hBi x).1 k hk).1, Bool.false_or]
      by_cases h32 : k < 32
      · refine zb_f.mp fun w => ?_
        have := ((hbt k h32).mp w).1
        omega
      · exact b_big (by omega)
    · rw [pk_un e]; exact ((hBi x).1 k hk).1
  · have e : x ≠ t := fun w => by subst w; omega
    rw [pk_un e]; exact (hBi x).2 q
  · have ⟨a1, a2, a3⟩ := hti x k hx hk
    refine ⟨?_, a2, a3⟩
    unfold zmk
    by_cases e : x = t
    · subst e
      rw [pk_us, b_or, a2]
      by_cases q : lo ≤ k ∧ k ≤ hi
      · by_cases w : bt (ws x) k = true
        · rw [if_neg (fun z => by rw [w] at z; exact absurd z.2.2 (by decide)), a1]
          have : bt (zf rs ws x lo hi) k = false := zb_f.mp fun y => by rw [((hbt k hk).mp y).2.1] at w; exact Bool.noConfusion w
          rw [this, Bool.or_false]
        · rw [if_pos ⟨by omega, by omega, by rw [zb_f.mp w]; rfl⟩]
          by_cases u : bt (rs x) k = true
          · rw [u, Bool.true_or]; rfl
          · rw [(hbt k hk).mpr ⟨q, zb_f.mp w, zb_f.mp u⟩, Bool.or_true]; rfl
      · rw [if_neg (fun z => q ⟨by omega, by omega⟩), a1]
        have : bt (zf rs ws x lo hi) k = false := zb_f.mp fun y => q ((hbt k hk).mp y).1
        rw [this, Bool.or_false]
    · rw [pk_un e, if_neg (fun z => e (by omega)), a1]
  · have e : x ≠ t := fun w => by subst w; omega
    exact pk_un e
/-! a write -/
theorem zI_buf {t k : Nat} {v : Int32} (hI : zInv T K Wl Ml cc bg kp hz os oc S B C rs ws FO ea wr L od rd wt la) (hS : S t = 1) (hk : k < K) :
    zInv T K Wl Ml cc bg kp hz os oc S B C rs (upd ws t (ws t ||| ((1 : Int32) <<< (nI k &&& 31)))) FO ea (upd wr (t * 32 + k) v) L od rd (upd wt (t * 32 + k) 1) (upd la (t * 32 + k) v) := by
  obtain ⟨⟨hK, hW, hM⟩, hb, hH, hk1, hBi, hti, hCo⟩ := hI
  have hT := zBas_T hb
  have htT := zBas_ltT hb (t := t) (by omega)
  refine ⟨⟨hK, hW, hM⟩, hb, hH, hk1, fun x => ⟨fun j hj => ⟨((hBi x).1 j hj).1, ?_⟩, fun q => ?_⟩, fun x j hx hj => ?_, zCom_ag hb (fun x => ⟨Iff.rfl, fun hx => ⟨rfl, rfl, rfl, ?_⟩⟩) (fun x _ => ⟨rfl, rfl⟩) hCo⟩
  · by_cases e : x = t
    · subst e
      rw [pk_us]
      by_cases h32 : j < 32
      · refine zb_f.mp fun w => ?_
        rcases (zb_set (show k < 32 by omega) h32).mp w with q | q
        · rw [((hBi x).1 j hj).2] at q; exact Bool.noConfusion q
        · omega
      · exact b_big (by omega)
    · rw [pk_un e]; exact ((hBi x).1 j hj).2
  · have e : x ≠ t := fun w => by subst w; omega
    rw [pk_un e]; exact (hBi x).2 q
  · have ⟨a1, a2, a3⟩ := hti x j hx hj
    refine ⟨a1, ?_⟩
    by_cases e : x = t
    · subst e
      rw [pk_us]
      by_cases w : j = k
      · subst w
        have : bt (ws x ||| ((1 : Int32) <<< (nI j &&& 31))) j = true := (zb_set hj hj).mpr (Or.inr rfl)
        rw [pk_us, pk_us, pk_us, this]
        exact ⟨rfl, fun _ => rfl⟩
      · have : bt (ws x ||| ((1 : Int32) <<< (nI k &&& 31))) j = bt (ws x) j := by
          rw [b_or, zb_one (by omega) hj, decide_eq_false w, Bool.or_false]
        rw [pk_un (by omega), pk_un (by omega), pk_un (by omega), this]
        exact ⟨a2, a3⟩
    · rw [pk_un e, pk_un (by omega), pk_un (by omega), pk_un (by omega)]
      exact ⟨a2, a3⟩
  · have e : x ≠ t := fun w => by subst w; omega
    exact pk_un e
/-! a begin -/
theorem zI_begin (hI : zInv T K Wl Ml cc bg kp hz os oc S B C rs ws FO ea wr L od rd wt la) (hbg : bg < T) :
    zInv T K Wl Ml cc (bg + 1) kp hz os oc (zU S bg 1) (zU B bg cc) C (upd rs bg 0) (upd ws bg 0) (zU FO bg 0) (upd ea bg 0) wr L od (zcr rd (bg * 32) 32) (zcr wt (bg * 32) 32) (zcr la (bg * 32) 32) := by
  obtain ⟨⟨hK, hW, hM⟩, hb, hH, ⟨hk1, hk2⟩, hBi, hti, hCo⟩ := hI
  have hT := zBas_T hb
  have ⟨hS0, hB0⟩ := hb.2.2.2.1 bg (Nat.le_refl bg)
  have ⟨hr0, hw0⟩ := (hBi bg).2 (Or.inl hS0)
  rw [upd_id hr0, upd_id hw0]
  have e2 : ∀ x, zU S bg 1 x = 2 ↔ S x = 2 := by
    intro x
    by_cases q : x = bg
    · subst q; rw [zU_s, hS0]; decide
    · rw [zU_n q]
  have nb : ∀ x, S x = 2 → x ≠ bg := fun x hx w => by subst w; omega
  have hCo' : zCom cc (zU S bg 1) (zU B bg cc) C rs ws (zU FO bg 0) (upd ea bg 0) L os oc od :=
    zCom_ag hb (fun x => ⟨e2 x, fun hx => ⟨zU_n (nb x hx), rfl, rfl, rfl⟩⟩) (fun x hx => ⟨zU_n (nb x hx), pk_un (nb x hx)⟩) hCo
  refine ⟨⟨hK, hW, hM⟩, ?_, ?_, ⟨?_, hk2⟩, fun x => ⟨(hBi x).1, fun q => ?_⟩, fun x k hx hk => ?_, hCo'⟩
  · obtain ⟨⟨a1, a2, a3⟩, b, c, d, f, g, i, j⟩ := hb
    refine ⟨⟨a1, by omega, ?_⟩, fun x => ?_, fun x hx => ?_, fun x hx => ?_, fun s x h1 h2 => ?_, fun x hx => ?_, fun x hx => i x (fun z => hx ((e2 x).mpr z)), fun c h1 h2 => ⟨(e2 _).mpr (j c h1 h2).1, (j c h1 h2).2⟩⟩
    · rw [← a3]
      refine zm_congr T (fun k _ => ?_)
      show (if zU S bg 1 k = 2 then 1 else 0) = (if S k = 2 then 1 else 0)
      by_cases q : S k = 2
      · rw [if_pos q, if_pos ((e2 k).mpr q)]
      · rw [if_neg q, if_neg (fun z => q ((e2 k).mp z))]
    · by_cases q : x = bg
      · subst q; rw [zU_s, zU_s]; omega
      · rw [zU_n q, zU_n q]; exact b x
    · by_cases q : x = bg
      · subst q; rw [zU_s]; decide
      · rw [zU_n q]; exact c x (by omega)
    · rw [zU_n (by omega), zU_n (by omega)]; exact d x (by omega)
    · by_cases q : x = bg
      · subst q
        rw [zU_s]
        by_cases q2 : s = x
        · subst q2; rw [zU_s]; omega
        · rw [zU_n q2]; exact (b s).2
      · rw [zU_n q, zU_n (by omega)]; exact f s x h1 (by omega)
    · have hx := (e2 x).mp hx
      rw [zU_n (nb x hx)]; exact g x hx
  · obtain ⟨a, b, c⟩ := hH
    refine ⟨a, fun x hx => ?_, ?_⟩
    · by_cases q : x = bg
      · subst q; rw [zU_s]; exact a
      · rw [zU_n q] at hx; rw [zU_n q]; exact b x hx
    · rcases c with ⟨x, c1, c2⟩ | ⟨c1, c2⟩
      · have q : x ≠ bg := fun w => by subst w; omega
        exact Or.inl ⟨x, by rw [zU_n q]; exact c1, by rw [zU_n q]; exact c2⟩
      · exact Or.inl ⟨bg, zU_s, by rw [zU_s, c2]⟩
  · rw [hk1]
    refine zm_congr T (fun k _ => ?_)
    show (if S k = 1 ∨ (S k = 2 ∧ hz < C k) then zp (rs k) else 0) = (if zU S bg 1 k = 1 ∨ (zU S bg 1 k = 2 ∧ hz < C k) then zp (rs k) else 0)
    by_cases q : k = bg
    · subst q
      rw [hr0, zp_0]
      split <;> split <;> rfl
    · rw [zU_n q]
  · have e : x ≠ bg := fun w => by subst w; rw [zU_s] at q; omega
    rw [zU_n e] at q
    exact (hBi x).2 q
  · have ⟨a1, a2, a3⟩ := hti x k hx hk
    unfold zcr
    by_cases e : x = bg
    · subst e
      rw [if_pos (by omega), if_pos (by omega), if_pos (by omega), hr0, hw0, b_0]
      exact ⟨rfl, rfl, fun w => Bool.noConfusion w⟩
    · rw [if_neg (by omega), if_neg (by omega), if_neg (by omega)]
      exact ⟨a1, a2, a3⟩
end
end
section
/-! what every call keeps, second part: a drop, a commit, a fresh start -/
section
variable {T K Wl Ml cc bg kp hz os : Nat} {oc : Int32} {bs : Nat → Int32} {S B C : Nat → Nat} {rs ws : Nat → Int32} {FO : Nat → Nat} {ea wr : Nat → Int32} {L : Nat → Nat} {od : Nat → Int32} {rd wt la pl : Nat → Int32}
theorem zI_drop {t h : Nat} (hI : zInv T K Wl Ml cc bg kp hz os oc S B C rs ws FO ea wr L od rd wt la) (hS : S t = 1) (hh : hz ≤ h) (hH' : zHz cc (zU S t 3) B h) :
    zInv T K Wl Ml cc bg (zKS T (zU S t 3) C (upd rs t 0) h) h os oc (zU S t 3) B C (upd rs t 0) (upd ws t 0) FO ea wr L od (zcr rd (t * 32) 32) (zcr wt (t * 32) 32) (zcr la (t * 32) 32) := by
  obtain ⟨⟨hK, hW, hM⟩, hb, hH, ⟨hk1, hk2⟩, hBi, hti, hCo⟩ := hI
  have hT := zBas_T hb
  have htT := zBas_ltT hb (t := t) (by omega)
  have nb : ∀ x, S x = 2 → x ≠ t := fun x hx w => by subst w; omega
  have e2 : ∀ x, zU S t 3 x = 2 ↔ S x = 2 := by
    intro x
    by_cases q : x = t
    · subst q; rw [zU_s, hS]; decide
    · rw [zU_n q]
  have d1 := zKS_drop (C := C) (rs := rs) (hz := hz) htT hS
  have d2 := zKS_mono (T := T) (S := zU S t 3) (C := C) (rs := upd rs t 0) hh
  refine ⟨⟨hK, hW, hM⟩, zBas_drop hb hS, hH', ⟨rfl, by omega⟩, fun x => ?_, fun x k hx hk => ?_, zCom_ag hb (fun x => ⟨e2 x, fun hx => ⟨rfl, rfl, pk_un (nb x hx), pk_un (nb x hx)⟩⟩) (fun x _ => ⟨rfl, rfl⟩) hCo⟩
  · by_cases e : x = t
    · subst e
      rw [pk_us, pk_us]
      exact ⟨fun k _ => ⟨b_0 k, b_0 k⟩, fun _ => ⟨rfl, rfl⟩⟩
    · rw [pk_un e, pk_un e, zU_n e]; exact hBi x
  · have ⟨a1, a2, a3⟩ := hti x k hx hk
    unfold zcr
    by_cases e : x = t
    · subst e
      rw [if_pos (by omega), if_pos (by omega), if_pos (by omega), pk_us, pk_us, b_0]
      exact ⟨rfl, rfl, fun w => Bool.noConfusion w⟩
    · rw [if_neg (by omega), if_neg (by omega), if_neg (by omega), pk_un e, pk_un e]
      exact ⟨a1, a2, a3⟩
/-! a commit -/
theorem zBas_com {t : Nat} (hb : zBas T cc bg S B C L) (hS : S t = 1) : zBas T (cc + 1) bg (zU S t 2) B (zU C t (cc + 1)) (zU L (cc + 1) t) := by
  have htT := zBas_ltT hb (t := t) (by omega)
  have htb := zBas_lt hb (t := t) (by omega)
  have hbb := hb
  obtain ⟨⟨a1, a2, a3⟩, b, c, d, f, g, i, j⟩ := hb
  refine ⟨⟨a1, a2, ?_⟩, fun x => ?_, fun x hx => ?_, fun x hx => ?_, f, fun x hx => ?_, fun x hx => ?_, fun c h1 h2 => ?_⟩
  · have e := zm_upd (f := fun x => if S x = 2 then 1 else 0) (g := fun x => if zU S t 2 x = 2 then 1 else 0) (t := t) T htT (fun k _ hn => by
      show (if S k = 2 then 1 else 0) = (if zU S t 2 k = 2 then 1 else 0)
      rw [zU_n hn])
    have e1 : (if S t = 2 then 1 else 0) = 0 := if_neg (by omega)
    have e2 : (if zU S t 2 t = 2 then 1 else 0) = 1 := if_pos zU_s
    rw [e1, e2, a3] at e
    omega
  · have := b x
    by_cases q : x = t
    · subst q; rw [zU_s]; omega
    · rw [zU_n q]; omega
  · by_cases q : x = t
    · subst q; rw [zU_s]; decide
    · rw [zU_n q]; exact c x hx
  · rw [zU_n (by omega)]; exact d x hx
  · by_cases q : x = t
    · subst q
      have := (b x).2
      rw [zU_s, zU_s]
      omega
    · rw [zU_n q] at hx
      have ⟨g1, g2, g3, g4⟩ := g x hx
      rw [zU_n q, zU_n (by omega)]
      exact ⟨g1, by omega, g3, g4⟩
  · have q : x ≠ t := fun w => by subst w; exact hx zU_s
    rw [zU_n q] at hx
    rw [zU_n q]; exact i x hx
  · by_cases q : c = cc + 1
    · subst q; rw [zU_s, zU_s, zU_s]; exact ⟨rfl, rfl⟩
    · have ⟨j1, j2⟩ := j c h1 (by omega)
      have q2 : L c ≠ t := fun w => by rw [w] at j1; omega
      rw [zU_n q, zU_n q2, zU_n q2]; exact ⟨j1, j2⟩
theorem zKS_com {t : Nat} (hS : S t = 1) (hh : hz ≤ cc) : zKS T S C rs hz = zKS T (zU S t 2) (zU C t (cc + 1)) rs hz := by
  refine zm_congr T (fun k _ => ?_)
  show (if S k = 1 ∨ (S k = 2 ∧ hz < C k) then zp (rs k) else 0) = (if zU S t 2 k = 1 ∨ (zU S t 2 k = 2 ∧ hz < zU C t (cc + 1) k) then zp (rs k) else 0)
  by_cases q : k = t
  · subst q
    rw [if_pos (Or.inl hS), if_pos (Or.inr ⟨zU_s, by rw [zU_s]; omega⟩)]
  · rw [zU_n q, zU_n q]
theorem zLO_L {L' : Nat → Nat} {m x n : Nat} (h : ∀ c, c ≤ m → L' c = L c) (q : zLO m B L rs ws x n) : zLO m B L' rs ws x n := by
  rcases q with ⟨a, b⟩ | ⟨a, b, c, d⟩
  · exact Or.inl ⟨a, fun c h1 h2 => by rw [h c h2]; exact b c h1 h2⟩
  · exact Or.inr ⟨a, b, by rw [h _ b]; exact c, fun e h1 h2 => by rw [h e (by omega)]; exact d e h1 h2⟩
theorem zCfl_com {t x y : Nat} (hx : x ≠ t) (hy : y ≠ t) : zCfl (zU S t 2) B (zU C t (cc + 1)) rs ws x y ↔ zCfl S B C rs ws x y := by
  unfold zCfl
  rw [zU_n hx, zU_n hy, zU_n hx, zU_n hy]
theorem zI_com {t n h : Nat} {e : Nat → Int32} (hI : zInv T K Wl Ml cc bg kp hz os oc S B C rs ws FO ea wr L od rd wt la) (hS : S t = 1) (hn : zLO cc B L rs ws t n)
    (he : zEL (zU S t 2) B (zU C t (cc + 1)) (zU L (cc + 1) t) rs ws ea e t (cc + 1)) (hh : hz ≤ h) (hH' : zHz (cc + 1) (zU S t 2) B h) :
    zInv T K Wl Ml (cc + 1) bg (zKS T (zU S t 2) (zU C t (cc + 1)) rs h) h os 0 (zU S t 2) B (zU C t (cc + 1)) rs ws (zU FO t n) e wr (zU L (cc + 1) t) od rd wt la := by
  obtain ⟨⟨hK, hW, hM⟩, hb, hH, ⟨hk1, hk2⟩, hBi, hti, hCo⟩ := hI
  have hb' := zBas_com hb hS
  have hT := zBas_T hb
  have htT := zBas_ltT hb (t := t) (by omega)
  have d1 := zKS_com (T := T) (C := C) (rs := rs) hS hH.1
  have d2 := zKS_mono (T := T) (S := zU S t 2) (C := zU C t (cc + 1)) (rs := rs) hh
  have nb : ∀ x, S x = 2 → x ≠ t := fun x hx w => by subst w; omega
  have s2 : ∀ x, x ≠ t → zU S t 2 x = 2 → S x = 2 := fun x hx w => by rw [zU_n hx] at w; exact w
  have lu : ∀ c, c ≤ cc → zU L (cc + 1) t c = L c := fun c hc => zU_n (by omega)
  refine ⟨⟨hK, hW, hM⟩, hb', hH', ⟨rfl, by omega⟩, fun x => ⟨(hBi x).1, fun q => ?_⟩, hti, fun x hx => ?_, fun x hx y hy => ?_, fun w => absurd rfl w⟩
  · have q2 : x ≠ t := fun w => by subst w; rw [zU_s] at q; omega
    rw [zU_n q2] at q
    exact (hBi x).2 q
  · unfold zFO
    by_cases q : x = t
    · subst q
      rw [zU_s, zU_s]
      exact zLO_L (m := cc) lu hn
    · have hx := s2 x q hx
      have := zBas_C hb hx
      rw [zU_n q, zU_n q]
      exact zLO_L (fun c hc => lu c (by omega)) (hCo.1 x hx)
  · by_cases q : x = t
    · subst q
      rw [he.1 y hy]
      constructor
      · intro ⟨j, a, b, c, d⟩
        rw [lu j (by omega)] at c
        have l1 := (zBas_L hb (c := j) a (by omega)).1
        rw [← c] at l1
        have yn := nb y l1
        exact ⟨yn, by rw [zU_n yn]; exact l1, d.elim (fun w => Or.inl w.2) Or.inr⟩
      · intro ⟨a, b, c⟩
        have hy2 := s2 y a b
        have ⟨c1, c2, c3, c4⟩ := zBas_C hb hy2
        exact ⟨C y, c1, by omega, by rw [lu _ c2, c4], c.elim (fun w => Or.inl ⟨b, w⟩) Or.inr⟩
    · have hx2 := s2 x q hx
      have ⟨c1, c2, c3, c4⟩ := zBas_C hb hx2
      rw [he.2 x q y hy, hCo.2.1 x hx2 y hy]
      by_cases w : y = t
      · subst w
        constructor
        · rintro (a | ⟨_, j, a, b, c, d⟩)
          · have := a.2.1; omega
          · exact ⟨fun z => q z.symm, zU_s, Or.inr d⟩
        · intro ⟨a, b, c⟩
          refine Or.inr ⟨rfl, C x, c1, by omega, by rw [lu _ c2, c4], ?_⟩
          rcases c with c | c
          · rw [zU_s] at c; have := zBas_B hb x; omega
          · exact c
      · unfold zBef
        rw [zCfl_com w q, zU_n w, zU_n w]
        exact ⟨fun a => a.elim id (fun a => absurd a.1 w), Or.inl⟩
/-! a fresh start -/
theorem zI_0 (hT : T ≤ 32) (hK : K ≤ 32) (hW : Wl ≤ 8) (hM : Ml ≤ 256) (hS : ∀ t, S t = 0) (hB : ∀ t, B t = 0) (hC : ∀ t, C t = 0) (hr : ∀ t, rs t = 0) (hw : ∀ t, ws t = 0)
    (hd : ∀ t k, t < 32 → k < 32 → rd (t * 32 + k) = 0 ∧ wt (t * 32 + k) = 0) :
    zInv T K Wl Ml 0 0 0 0 0 0 S B C rs ws FO ea wr L od rd wt la := by
  refine ⟨⟨hK, hW, hM⟩, ⟨⟨hT, Nat.zero_le T, zm_0 T (fun k _ => if_neg (by rw [hS]; decide))⟩, fun t => ?_, fun t ht => absurd ht (Nat.not_lt_zero t), fun t _ => ⟨hS t, hB t⟩, fun s t _ ht => absurd ht (Nat.not_lt_zero t), fun t ht => ?_, fun t _ => hC t, fun c h1 h2 => by omega⟩, ⟨Nat.le_refl 0, fun t ht => ?_, Or.inr ⟨fun t => ?_, rfl⟩⟩, ⟨(zm_0 T (fun k _ => if_neg ?_)).symm, Nat.zero_le Ml⟩, fun t => ?_, fun t k ht hk => ?_, fun x hx => ?_, fun x hx => ?_, fun w => absurd rfl w⟩
  · rw [hS, hB]; exact ⟨by decide, Nat.le_refl 0⟩
  · rw [hS] at ht; omega
  · rw [hS] at ht; omega
  · rw [hS]; decide
  · rw [hS]; omega
  · rw [hr, hw]; exact ⟨fun k _ => ⟨b_0 k, b_0 k⟩, fun _ => ⟨rfl, rfl⟩⟩
  · have ⟨a, b⟩ := hd t k ht hk
    rw [hr, hw, a, b, b_0]
    exact ⟨rfl, rfl, fun w => Bool.noConfusion w⟩
  · rw [hS] at hx; omega
  · rw [hS] at hx; omega
theorem zI_settle (hI : zInv T K Wl Ml cc bg kp hz os oc S B C rs ws FO ea wr L od rd wt la) :
    zInv T K Wl Ml 0 0 0 0 0 0 (zcl S T) (zcl B T) (zcl C T) (zcl' rs T) (zcl' ws T) (zcl FO T) (zcl' ea T) wr L od (zcr rd 0 (T * 32)) (zcr wt 0 (T * 32)) (zcr la 0 (T * 32)) := by
  obtain ⟨⟨hK, hW, hM⟩, hb, hH, ⟨hk1, hk2⟩, hBi, hti, hCo⟩ := hI
  have hT := zBas_T hb
  have hbg := zBas_bg hb
  have z0 : ∀ t, T ≤ t → S t = 0 ∧ B t = 0 := fun t ht => hb.2.2.2.1 t (by omega)
  have zr : ∀ t, T ≤ t → rs t = 0 ∧ ws t = 0 := fun t ht => (hBi t).2 (Or.inl (z0 t ht).1)
  refine zI_0 hT hK hW hM (fun t => ?_) (fun t => ?_) (fun t => ?_) (fun t => ?_) (fun t => ?_) (fun t k ht hk => ?_)
  · unfold zcl
    by_cases q : t < T
    · rw [if_pos q]
    · rw [if_neg q]; exact (z0 t (by omega)).1
  · unfold zcl
    by_cases q : t < T
    · rw [if_pos q]
    · rw [if_neg q]; exact (z0 t (by omega)).2
  · unfold zcl
    by_cases q : t < T
    · rw [if_pos q]
    · rw [if_neg q]; exact hb.2.2.2.2.2.2.1 t (by rw [(z0 t (by omega)).1]; decide)
  · unfold zcl'
    by_cases q : t < T
    · rw [if_pos q]
    · rw [if_neg q]; exact (zr t (by omega)).1
  · unfold zcl'
    by_cases q : t < T
    · rw [if_pos q]
    · rw [if_neg q]; exact (zr t (by omega)).2
  · unfold zcr
    have ⟨a1, a2, a3⟩ := hti t k ht hk
    by_cases q : t < T
    · rw [if_pos (by omega), if_pos (by omega)]; exact ⟨rfl, rfl⟩
    · rw [if_neg (by omega), if_neg (by omega), a1, a2, (zr t (by omega)).1, (zr t (by omega)).2, b_0]
      exact ⟨rfl, rfl⟩
end
end
section
/-! walks of the calls that store, for both sides -/
section
variable {T K Wl Ml cc bg kp hz os : Nat} {oc : Int32} {bs : Nat → Int32} {S B C : Nat → Nat} {rs ws : Nat → Int32} {FO : Nat → Nat} {ea wr : Nat → Int32} {L : Nat → Nat} {od : Nat → Int32} {rd wt la pl : Nat → Int32}
variable {post : Int32 → Prop}
theorem zFO_32 (hb : zBas T cc bg S B C L) (hF : ∀ x, S x = 2 → zFO B C L rs ws x (FO x)) : ∀ c, 1 ≤ c → c ≤ cc → FO (L c) ≤ 32 := by
  intro c h1 h2
  have hT := zBas_T hb
  have hcc := zBas_cc hb
  have ⟨l1, l2⟩ := zBas_L hb h1 h2
  rcases hF _ l1 with ⟨a, _⟩ | ⟨_, a, _⟩ <;> omega
theorem xw_begin {rost : Int32 → SX → Prop} (hb : zBas T cc bg S B C L)
    (h1 : bg < T → rost (nI bg) (nI T, nI K, nI Wl, nI Ml, nI cc, nI (bg + 1), nI kp, nI hz, nI os, oc, bs, zS (zU S bg 1), zS (zU B bg cc), zS C, upd rs bg 0, upd ws bg 0, zS (zU FO bg 0), upd ea bg 0, wr, zS L, od))
    (h0 : bg = T → rost (-3) (nI T, nI K, nI Wl, nI Ml, nI cc, nI bg, nI kp, nI hz, nI os, oc, bs, zS S, zS B, zS C, rs, ws, zS FO, ea, wr, zS L, od)) : wpX_begin rost (nI T, nI K, nI Wl, nI Ml, nI cc, nI bg, nI kp, nI hz, nI os, oc, bs, zS S, zS B, zS C, rs, ws, zS FO, ea, wr, zS L, od) := by
  have hT := zBas_T hb
  have hbg := zBas_bg hb
  have hC0 : C bg = 0 := hb.2.2.2.2.2.2.1 bg (by rw [(hb.2.2.2.1 bg (Nat.le_refl bg)).1]; decide)
  refine zi (nI_ltI (by omega) (by omega)) (fun q => nm_r (nI_1 bg) (xw_clear (by omega) ?_)) (fun q => h0 (by omega))
  rw [zU_id hC0]
  refine And.intro (zi_in (by omega)) (nm_r (e' := zS (zU S bg 1)) ?_ ⟨zi_in (by omega), nm_r (e' := zS (zU B bg cc)) ?_ (h1 q)⟩)
  · exact (zS_ut (k := bg) (v := 1) (by omega) rfl rfl).trans (by rw [zU_zU])
  · exact (zS_ut (k := bg) (v := cc) (by omega) rfl rfl).trans (by rw [zU_zU])
theorem xw_commit {rost : Int32 → SX → Prop} {t : Nat} (ht : t < T) (hb : zBas T cc bg S B C L) (hH : zHz cc S B hz) (hk : kp = zKS T S C rs hz) (hF : ∀ x, S x = 2 → zFO B C L rs ws x (FO x))
    (h2 : S t ≠ 1 → rost (-2) (nI T, nI K, nI Wl, nI Ml, nI cc, nI bg, nI kp, nI hz, nI os, oc, bs, zS S, zS B, zS C, rs, ws, zS FO, ea, wr, zS L, od))
    (h5 : S t = 1 → zLost S B C ws t → ∀ h, hz ≤ h → zHz cc (zU S t 3) B h → rost (-5) (nI T, nI K, nI Wl, nI Ml, nI cc, nI bg, nI (zKS T (zU S t 3) C (upd rs t 0) h), nI h, nI os, oc, bs, zS (zU S t 3), zS B, zS C, upd rs t 0, upd ws t 0, zS FO, ea, wr, zS L, od))
    (h6 : S t = 1 → ¬ zLost S B C ws t → zUns S B C rs ws t → ∀ h, hz ≤ h → zHz cc (zU S t 3) B h → rost (-6) (nI T, nI K, nI Wl, nI Ml, nI cc, nI bg, nI (zKS T (zU S t 3) C (upd rs t 0) h), nI h, nI os, oc, bs, zS (zU S t 3), zS B, zS C, upd rs t 0, upd ws t 0, zS FO, ea, wr, zS L, od))
    (h0 : S t = 1 → ¬ zLost S B C ws t → ¬ zUns S B C rs ws t → ∀ n e h, zLO cc B L rs ws t n → zEL (zU S t 2) B (zU C t (cc + 1)) (zU L (cc + 1) t) rs ws ea e t (cc + 1) → hz ≤ h → zHz (cc + 1) (zU S t 2) B h →
      rost 0 (nI T, nI K, nI Wl, nI Ml, nI (cc + 1), nI bg, nI (zKS T (zU S t 2) (zU C t (cc + 1)) rs h), nI h, nI os, 0, bs, zS (zU S t 2), zS B, zS (zU C t (cc + 1)), rs, ws, zS (zU FO t n), e, wr, zS (zU L (cc + 1) t), od)) :
    wpX_commit rost (nI T, nI K, nI Wl, nI Ml, nI cc, nI bg, nI kp, nI hz, nI os, oc, bs, zS S, zS B, zS C, rs, ws, zS FO, ea, wr, zS L, od) (nI t) := by
  have hT := zBas_T hb
  have ht32 : t < 32 := by omega
  unfold wpX_commit
  refine xw_txn hT ht (br_f (by decide) ⟨zi_in ht32, zi (zS_1 ht32 (zBas_S hb t)) (fun q => ?_) h2⟩)
  refine xw_judge ht32 hb (zFO_32 hb hF) (fun a => br_f (by decide) (xw_drop q hb hH hk (h5 q a))) (fun a b => br_f (by decide) (xw_drop q hb hH hk (h6 q a ?_))) (fun a b c => br_t rfl ?_)
  · rcases b with ⟨c, b⟩ | ⟨n, c, b1, b2, b3⟩
    · exact zUns_df hb hF q b
    · exact zUns_dm hb q b1 b2 b3
  · have hb2 := zBas_com hb q
    have hcc2 := zBas_cc hb2
    have hu : ¬ zUns S B C rs ws t := fun w => (zUns_mp hb hF w).elim b c
    refine xw_lo ht32 hb (fun n hn => ⟨zi_in ht32, nm_r (e' := zS (zU FO t n)) (zS_ut (by omega) rfl rfl) (nm_r (nI_1 cc) ⟨zi_in ht32, nm_r (e' := zS (zU S t 2)) (zS_ut (by omega) rfl rfl) ⟨zi_in ht32, nm_r (e' := zS (zU C t (cc + 1))) (zS_ut (by omega) rfl rfl) ⟨vp_in_nI (by omega) (by decide), nm_r (e' := zS (zU L (cc + 1) t)) (zS_ut (by omega) rfl rfl) ?_⟩⟩⟩)⟩)
    refine xw_ls ht32 hb2 (by omega) zU_s (fun e he => ?_)
    refine xw_adv hb2 (by have := hH.1; omega) (fun x hx => ?_) (hk.trans (zKS_com q hH.1)) (fun h k1 k2 => h0 q a hu n e h hn he k1 k2)
    have w : x ≠ t := fun w => by subst w; rw [zU_s] at hx; omega
    rw [zU_n w] at hx
    exact hH.2.1 x hx
theorem yw_commit {rost : Int32 → SY → Prop} {t : Nat} (ht : t < T) (hK : K ≤ 32) (hb : zBas T cc bg S B C L) (hBi : zBit K S rs ws) (hti : zTie rs ws wr rd wt la)
    (h2 : S t ≠ 1 → rost (-2) (nI T, nI K, nI Wl, nI Ml, nI cc, bs, zS S, zS B, zS C, rd, wt, la, pl))
    (h5 : S t = 1 → zLost S B C ws t → rost (-5) (nI T, nI K, nI Wl, nI Ml, nI cc, bs, zS (zU S t 3), zS B, zS C, zcr rd (t * 32) 32, zcr wt (t * 32) 32, zcr la (t * 32) 32, pl))
    (h6 : S t = 1 → ¬ zLost S B C ws t → zUns S B C rs ws t → rost (-6) (nI T, nI K, nI Wl, nI Ml, nI cc, bs, zS (zU S t 3), zS B, zS C, zcr rd (t * 32) 32, zcr wt (t * 32) 32, zcr la (t * 32) 32, pl))
    (h0 : S t = 1 → ¬ zLost S B C ws t → ¬ zUns S B C rs ws t → rost 0 (nI T, nI K, nI Wl, nI Ml, nI (cc + 1), bs, zS (zU S t 2), zS B, zS (zU C t (cc + 1)), rd, wt, la, pl)) :
    wpY_commit rost (nI T, nI K, nI Wl, nI Ml, nI cc, bs, zS S, zS B, zS C, rd, wt, la, pl) (nI t) := by
  have hT := zBas_T hb
  have ht32 : t < 32 := by omega
  unfold wpY_commit
  refine yw_vd ht hK hb hBi hti (fun q => br_f (by decide) (br_t rfl (h2 q))) (fun q a => br_f (by decide) (br_f (by decide) (br_f (by decide) ⟨zi_in ht32, nm_r (e' := zS (zU S t 3)) (zS_ut (by omega) rfl rfl) (yw_em ht32 (h5 q a))⟩))) (fun q a b => br_f (by decide) (br_f (by decide) (br_f (by decide) ⟨zi_in ht32, nm_r (e' := zS (zU S t 3)) (zS_ut (by omega) rfl rfl) (yw_em ht32 (h6 q a b))⟩))) (fun q a b => br_f (by decide) (br_f (by decide) (br_t rfl (nm_r (nI_1 cc) ⟨zi_in ht32, nm_r (e' := zS (zU S t 2)) (zS_ut (by omega) rfl rfl) ⟨zi_in ht32, nm_r (e' := zS (zU C t (cc + 1))) (zS_ut (by omega) rfl rfl) (h0 q a b)⟩⟩))))
theorem yw_ck {t lo hi : Nat} (ht : t < T) (hlo : lo ≤ hi) (hhi : hi < K) (hT : T ≤ 32) (hK : K ≤ 32) (hS : S t ≤ 3) (h1 : S t = 1 → post 0) (h2 : S t ≠ 1 → post (-2)) : wpY_check post (nI T, nI K, nI Wl, nI Ml, nI cc, bs, zS S, zS B, zS C, rd, wt, la, pl) (nI t) (nI lo) (nI hi) := by
  unfold wpY_check
  exact yw_txn hT ht (br_t rfl (br_f (nI_pos (by omega)) (br_f (nI_nlt hlo (by omega)) (br_t (nI_lt hhi (by omega)) ⟨zi_in (by omega), zi (zS_1 (by omega) hS) h1 h2⟩))))
theorem yw_ckk {t : Nat} {p : Int32} (ht : t < T) (hT : T ≤ 32) (hK : K ≤ 32) (h : ¬ ∃ k, k < K ∧ p = nI k) (hp : post (-1)) : wpY_check post (nI T, nI K, nI Wl, nI Ml, nI cc, bs, zS S, zS B, zS C, rd, wt, la, pl) (nI t) p p := by
  unfold wpY_check
  refine yw_txn hT ht (br_t rfl (br_c (fun _ => hp) (fun q => br_f ?_ (br_f ?_ hp))))
  · rw [Int32.lt_iff_toInt_lt]; omega
  · intro w
    rcases pk_ix p (n := K) (by omega) with h1 | h1 | h1
    · exact q h1
    · exact absurd w (Int32.not_lt.mpr h1)
    · exact h h1
/-- a look: one outcome for both -/
theorem lk_out {t lo hi : Nat} (hI : zInv T K Wl Ml cc bg kp hz os oc S B C rs ws FO ea wr L od rd wt la) (hS : S t = 1) (hlo : lo ≤ hi) (hhi : hi < K) :
    (∃ (kq : Nat) (rq rdq : Nat → Int32), zInv T K Wl Ml cc bg kq hz os oc S B C rq ws FO ea wr L od rdq wt la ∧
      (∀ rost : Int32 → SX → Prop, rost 1 (nI T, nI K, nI Wl, nI Ml, nI cc, nI bg, nI kq, nI hz, nI os, oc, bs, zS S, zS B, zS C, rq, ws, zS FO, ea, wr, zS L, od) → wpX_look rost (nI T, nI K, nI Wl, nI Ml, nI cc, nI bg, nI kp, nI hz, nI os, oc, bs, zS S, zS B, zS C, rs, ws, zS FO, ea, wr, zS L, od) (nI t) (nI lo) (nI hi)) ∧
      (∀ rost : Int32 → SY → Prop, rost 1 (nI T, nI K, nI Wl, nI Ml, nI cc, bs, zS S, zS B, zS C, rdq, wt, la, pl) → wpY_look rost (nI T, nI K, nI Wl, nI Ml, nI cc, bs, zS S, zS B, zS C, rd, wt, la, pl) (nI t) (nI lo) (nI hi))) ∨
    ((∀ rost : Int32 → SX → Prop, rost 0 (nI T, nI K, nI Wl, nI Ml, nI cc, nI bg, nI kp, nI hz, nI os, oc, bs, zS S, zS B, zS C, rs, ws, zS FO, ea, wr, zS L, od) → wpX_look rost (nI T, nI K, nI Wl, nI Ml, nI cc, nI bg, nI kp, nI hz, nI os, oc, bs, zS S, zS B, zS C, rs, ws, zS FO, ea, wr, zS L, od) (nI t) (nI lo) (nI hi)) ∧
      (∀ rost : Int32 → SY → Prop, rost 0 (nI T, nI K, nI Wl, nI Ml, nI cc, bs, zS S, zS B, zS C, rd, wt, la, pl) → wpY_look rost (nI T, nI K, nI Wl, nI Ml, nI cc, bs, zS S, zS B, zS C, rd, wt, la, pl) (nI t) (nI lo) (nI hi))) := by
  have hI' := hI
  obtain ⟨⟨hK, hW, hM⟩, hb, hH, ⟨hk1, hk2⟩, hBi, hti, hCo⟩ := hI'
  have hT := zBas_T hb
  have htT := zBas_ltT hb (t := t) (by omega)
  have ht32 : t < 32 := by omega
  by_cases q : zf rs ws t lo hi = 0
  · exact Or.inl ⟨kp, rs, rd, hI, fun rost h => xw_look ht32 hk2 hM (fun _ => h) (fun w => absurd q w) (fun w => absurd q w), fun rost h => yw_look ht32 hlo hhi hK hM hk2 hk1 hb hH hBi hti (fun _ => h) (fun w => absurd q w) (fun w => absurd q w)⟩
  · by_cases q2 : kp + zp (zf rs ws t lo hi) ≤ Ml
    · exact Or.inl ⟨_, _, _, zI_look hI hS hlo hhi q2, fun rost h => xw_look ht32 hk2 hM (fun w => absurd w q) (fun _ _ => h) (fun _ w => absurd q2 (by omega)), fun rost h => yw_look ht32 hlo hhi hK hM hk2 hk1 hb hH hBi hti (fun w => absurd w q) (fun _ _ => h) (fun _ w => absurd q2 (by omega))⟩
    · exact Or.inr ⟨fun rost h => xw_look ht32 hk2 hM (fun w => absurd w q) (fun _ w => absurd w q2) (fun _ _ => h), fun rost h => yw_look ht32 hlo hhi hK hM hk2 hk1 hb hH hBi hti (fun w => absurd w q) (fun _ w => absurd w q2) (fun _ _ => h)⟩
theorem cnt_out {t hi : Nat} {p3 : Int32} (ht : t < 32) (hhi : hi < 32) (hb : zBas T cc bg S B C L) (hti : zTie rs ws wr rd wt la) :
    ∀ d i a, i + d = hi + 1 → ∃ r, (∀ rost : Int32 → SX → Prop, rost r (nI T, nI K, nI Wl, nI Ml, nI cc, nI bg, nI kp, nI hz, nI os, oc, bs, zS S, zS B, zS C, rs, ws, zS FO, ea, wr, zS L, od) → wX_count_36 rost (nI t) (nI hi) p3 (nI T) (nI K) (nI Wl) (nI Ml) (nI cc) (nI bg) (nI kp) (nI hz) (nI os) oc bs (zS S) (zS B) (zS C) rs ws (zS FO) ea wr (zS L) od (d + 1) a (nI i)) ∧ (∀ rost : Int32 → SY → Prop, rost r (nI T, nI K, nI Wl, nI Ml, nI cc, bs, zS S, zS B, zS C, rd, wt, la, pl) → wY_count_36 rost (nI t) (nI hi) p3 (nI T) (nI K) (nI Wl) (nI Ml) (nI cc) bs (zS S) (zS B) (zS C) rd wt la pl (d + 1) a (nI i)) := by
  intro d
  induction d with
  | zero =>
    intro i a hi'
    exact ⟨a, fun rost h => br_t (nI_lt (by omega) (by omega)) h, fun rost h => br_t (nI_lt (by omega) (by omega)) h⟩
  | succ d ih =>
    intro i a hi'
    by_cases q : zw bs ws wr B L t i = -7
    · obtain ⟨r, hX, hY⟩ := ih (i + 1) a (by omega)
      exact ⟨r, fun rost h => br_f (nI_nlt (by omega) (by omega)) (xw_view ht (by omega) hb (br_t q (nm_r (nI_1 i) (hX rost h)))), fun rost h => br_f (nI_nlt (by omega) (by omega)) (yw_view ht (by omega) hb hti (br_t q (nm_r (nI_1 i) (hY rost h))))⟩
    · by_cases q2 : zw bs ws wr B L t i < p3
      · obtain ⟨r, hX, hY⟩ := ih (i + 1) a (by omega)
        exact ⟨r, fun rost h => br_f (nI_nlt (by omega) (by omega)) (xw_view ht (by omega) hb (br_f q (br_t q2 (nm_r (nI_1 i) (hX rost h))))), fun rost h => br_f (nI_nlt (by omega) (by omega)) (yw_view ht (by omega) hb hti (br_f q (br_t q2 (nm_r (nI_1 i) (hY rost h)))))⟩
      · obtain ⟨r, hX, hY⟩ := ih (i + 1) (a + 1) (by omega)
        exact ⟨r, fun rost h => br_f (nI_nlt (by omega) (by omega)) (xw_view ht (by omega) hb (br_f q (br_f q2 (nm_e (nm_r (nI_1 i) (hX rost h)))))), fun rost h => br_f (nI_nlt (by omega) (by omega)) (yw_view ht (by omega) hb hti (br_f q (br_f q2 (nm_e (nm_r (nI_1 i) (hY rost h))))))⟩
theorem sum_out {t hi : Nat} (ht : t < 32) (hhi : hi < 32) (hb : zBas T cc bg S B C L) (hti : zTie rs ws wr rd wt la) :
    ∀ d i a, i + d = hi + 1 → ∃ r, (∀ rost : Int32 → SX → Prop, rost r (nI T, nI K, nI Wl, nI Ml, nI cc, nI bg, nI kp, nI hz, nI os, oc, bs, zS S, zS B, zS C, rs, ws, zS FO, ea, wr, zS L, od) → wX_sum_36 rost (nI t) (nI hi) (nI T) (nI K) (nI Wl) (nI Ml) (nI cc) (nI bg) (nI kp) (nI hz) (nI os) oc bs (zS S) (zS B) (zS C) rs ws (zS FO) ea wr (zS L) od (d + 1) a (nI i)) ∧ (∀ rost : Int32 → SY → Prop, rost r (nI T, nI K, nI Wl, nI Ml, nI cc, bs, zS S, zS B, zS C, rd, wt, la, pl) → wY_sum_36 rost (nI t) (nI hi) (nI T) (nI K) (nI Wl) (nI Ml) (nI cc) bs (zS S) (zS B) (zS C) rd wt la pl (d + 1) a (nI i)) := by
  intro d
  induction d with
  | zero =>
    intro i a hi'
    exact ⟨a, fun rost h => br_t (nI_lt (by omega) (by omega)) h, fun rost h => br_t (nI_lt (by omega) (by omega)) h⟩
  | succ d ih =>
    intro i a hi'
    by_cases q : zw bs ws wr B L t i = -7
    · obtain ⟨r, hX, hY⟩ := ih (i + 1) a (by omega)
      exact ⟨r, fun rost h => br_f (nI_nlt (by omega) (by omega)) (xw_view ht (by omega) hb (br_t q (nm_r (nI_1 i) (hX rost h)))), fun rost h => br_f (nI_nlt (by omega) (by omega)) (yw_view ht (by omega) hb hti (br_t q (nm_r (nI_1 i) (hY rost h))))⟩
    · obtain ⟨r, hX, hY⟩ := ih (i + 1) (a + zw bs ws wr B L t i) (by omega)
      exact ⟨r, fun rost h => br_f (nI_nlt (by omega) (by omega)) (xw_view ht (by omega) hb (br_f q (nm_e (nm_r (nI_1 i) (hX rost h))))), fun rost h => br_f (nI_nlt (by omega) (by omega)) (yw_view ht (by omega) hb hti (br_f q (nm_e (nm_r (nI_1 i) (hY rost h)))))⟩
theorem fst_out (f : Nat → Int32) (lo hi : Nat) : (∀ k, lo ≤ k → k ≤ hi → f k = -7) ∨ ∃ k, lo ≤ k ∧ k ≤ hi ∧ ¬ f k = -7 ∧ ∀ j, lo ≤ j → j < k → f j = -7 := by
  by_cases h : ∃ k, lo ≤ k ∧ k ≤ hi ∧ ¬ f k = -7
  · obtain ⟨k, ⟨a, b, c⟩, hm⟩ := pk_least _ h
    exact Or.inr ⟨k, a, b, c, fun j h1 h2 => Classical.byContradiction fun w => hm j h2 ⟨h1, by omega, w⟩⟩
  · exact Or.inl fun k h1 h2 => Classical.byContradiction fun w => h ⟨k, h1, h2, w⟩
theorem lst_out (f : Nat → Int32) (lo hi : Nat) : (∀ k, lo ≤ k → k ≤ hi → f k = -7) ∨ ∃ k, lo ≤ k ∧ k ≤ hi ∧ ¬ f k = -7 ∧ ∀ j, k < j → j ≤ hi → f j = -7 := by
  by_cases h : ∃ m, lo ≤ hi - m ∧ m ≤ hi ∧ ¬ f (hi - m) = -7
  · obtain ⟨m, ⟨a, b, c⟩, hm⟩ := pk_least _ h
    refine Or.inr ⟨hi - m, a, by omega, c, fun j h1 h2 => Classical.byContradiction fun w => hm (hi - j) (by omega) ⟨by omega, by omega, ?_⟩⟩
    rw [show hi - (hi - j) = j by omega]; exact w
  · refine Or.inl fun k h1 h2 => Classical.byContradiction fun w => h ⟨hi - k, by omega, by omega, ?_⟩
    rw [show hi - (hi - k) = k by omega]; exact w
theorem next_out {t lo hi : Nat} (ht : t < 32) (hlo : lo ≤ hi) (hhi : hi < 32) (hb : zBas T cc bg S B C L) (hti : zTie rs ws wr rd wt la) : ∃ (f : Int32) (m : Nat), lo ≤ m ∧ m ≤ hi ∧
    (∀ rost : Int32 → SX → Prop, wX_next_70 rost (nI t) (nI lo) f (nI m) (nI T) (nI K) (nI Wl) (nI Ml) (nI cc) (nI bg) (nI kp) (nI hz) (nI os) oc bs (zS S) (zS B) (zS C) rs ws (zS FO) ea wr (zS L) od → ∃ n, wX_next_27 rost (nI t) (nI lo) (nI hi) (nI T) (nI K) (nI Wl) (nI Ml) (nI cc) (nI bg) (nI kp) (nI hz) (nI os) oc bs (zS S) (zS B) (zS C) rs ws (zS FO) ea wr (zS L) od n (-7) (nI hi) (nI lo)) ∧
    (∀ rost : Int32 → SY → Prop, wY_next_66 rost (nI t) (nI lo) f (nI m) (nI T) (nI K) (nI Wl) (nI Ml) (nI cc) bs (zS S) (zS B) (zS C) rd wt la pl → ∃ n, wY_next_24 rost (nI t) (nI lo) (nI hi) (nI T) (nI K) (nI Wl) (nI Ml) (nI cc) bs (zS S) (zS B) (zS C) rd wt la pl n (-7) (nI hi)) := by
  have e : nI (hi + 1) + (-1) = nI hi := pk_m1 hi
  rcases fst_out (zw bs ws wr B L t) lo hi with h | ⟨k, a, b, c, d⟩
  · refine ⟨-7, hi, hlo, Nat.le_refl hi, fun rost q => ⟨_, xw_next_l ht hhi hb (fun _ => q) (fun j h1 h2 h3 _ => absurd (h j h1 h2) h3) (hi + 1 - lo) lo (by omega) (Nat.le_refl lo) (fun j h1 h2 => by omega)⟩, fun rost q => ⟨hi + 1 - lo + 1, ?_⟩⟩
    have g := yw_next_l ht hhi hb hti (fun _ => q) (fun j h1 h2 h3 _ => absurd (h j h1 h2) h3) (hi + 1 - lo) (hi + 1) _ (by omega) (Nat.le_refl _) (Or.inl ⟨rfl, fun j h1 h2 => by omega⟩)
    rw [e] at g
    exact g
  · have un : ∀ j, lo ≤ j → ¬ zw bs ws wr B L t j = -7 → (∀ i, lo ≤ i → i < j → zw bs ws wr B L t i = -7) → j = k := by
      intro j h1 h2 h3
      rcases Nat.lt_trichotomy j k with w | w | w
      · exact absurd (d j h1 w) h2
      · exact w
      · exact absurd (h3 k a w) c
    refine ⟨nI k, k, a, b, fun rost q => ⟨_, xw_next_l ht hhi hb (fun w => absurd (w k a b) c) (fun j h1 h2 h3 h4 => ?_) (hi + 1 - lo) lo (by omega) (Nat.le_refl lo) (fun j h1 h2 => by omega)⟩, fun rost q => ⟨hi + 1 - lo + 1, ?_⟩⟩
    · rw [un j h1 h3 h4]; exact q
    · have g := yw_next_l ht hhi hb hti (fun w => absurd (w k a b) c) (fun j h1 h2 h3 h4 => by rw [un j h1 h3 h4]; exact q) (hi + 1 - lo) (hi + 1) _ (by omega) (Nat.le_refl _) (Or.inl ⟨rfl, fun j h1 h2 => by omega⟩)
      rw [e] at g
      exact g
theorem prev_out {t lo hi : Nat} (ht : t < 32) (hlo : lo ≤ hi) (hhi : hi < 32) (hb : zBas T cc bg S B C L) (hti : zTie rs ws wr rd wt la) : ∃ (f : Int32) (m : Nat), lo ≤ m ∧ m ≤ hi ∧
    (∀ rost : Int32 → SX → Prop, wX_prev_70 rost (nI t) (nI hi) f (nI m) (nI T) (nI K) (nI Wl) (nI Ml) (nI cc) (nI bg) (nI kp) (nI hz) (nI os) oc bs (zS S) (zS B) (zS C) rs ws (zS FO) ea wr (zS L) od → ∃ n, wX_prev_27 rost (nI t) (nI lo) (nI hi) (nI T) (nI K) (nI Wl) (nI Ml) (nI cc) (nI bg) (nI kp) (nI hz) (nI os) oc bs (zS S) (zS B) (zS C) rs ws (zS FO) ea wr (zS L) od n (-7) (nI lo) (nI hi)) ∧
    (∀ rost : Int32 → SY → Prop, wY_prev_66 rost (nI t) (nI hi) f (nI m) (nI T) (nI K) (nI Wl) (nI Ml) (nI cc) bs (zS S) (zS B) (zS C) rd wt la pl → ∃ n, wY_prev_24 rost (nI t) (nI lo) (nI hi) (nI T) (nI K) (nI Wl) (nI Ml) (nI cc) bs (zS S) (zS B) (zS C) rd wt la pl n (-7) (nI lo)) := by
  have e : nI (hi + 1) + (-1) = nI hi := pk_m1 hi
  rcases lst_out (zw bs ws wr B L t) lo hi with h | ⟨k, a, b, c, d⟩
  · refine ⟨-7, lo, Nat.le_refl lo, hlo, fun rost q => ⟨hi + 1 - lo + 1 + 1, ?_⟩, fun rost q => ⟨_, yw_prev_l ht hhi hb hti (fun _ => q) (fun j h1 h2 h3 _ => absurd (h j h1 h2) h3) (hi + 1 - lo) lo _ (by omega) (Nat.le_refl lo) (Or.inl ⟨rfl, fun j h1 h2 => by omega⟩)⟩⟩
    have g := xw_prev_l ht hhi hb (fun _ => q) (fun j h1 h2 h3 _ => absurd (h j h1 h2) h3) (hi + 1 - lo) (hi + 1) (by omega) (Nat.le_refl _) (fun j h1 h2 => by omega)
    rw [e] at g
    exact g
  · have un : ∀ j, j ≤ hi → ¬ zw bs ws wr B L t j = -7 → (∀ i, j < i → i ≤ hi → zw bs ws wr B L t i = -7) → j = k := by
      intro j h1 h2 h3
      rcases Nat.lt_trichotomy j k with w | w | w
      · exact absurd (h3 k w b) c
      · exact w
      · exact absurd (d j w h1) h2
    refine ⟨nI k, k, a, b, fun rost q => ⟨hi + 1 - lo + 1 + 1, ?_⟩, fun rost q => ⟨_, yw_prev_l ht hhi hb hti (fun w => absurd (w k a b) c) (fun j h1 h2 h3 h4 => ?_) (hi + 1 - lo) lo _ (by omega) (Nat.le_refl lo) (Or.inl ⟨rfl, fun j h1 h2 => by omega⟩)⟩⟩
    · have g := xw_prev_l ht hhi hb (fun w => absurd (w k a b) c) (fun j h1 h2 h3 h4 => by rw [un j h2 h3 h4]; exact q) (hi + 1 - lo) (hi + 1) (by omega) (Nat.le_refl _) (fun j h1 h2 => by omega)
      rw [e] at g
      exact g
    · rw [un j h2 h3 h4]; exact q
end
end
section
/-! the relation -/
def i_Rel (k : Nat) (u : SX) (v : SY) : Prop :=
  ∃ T K Wl Ml cc bg kp hz os : Nat, ∃ oc : Int32, ∃ bs : Nat → Int32, ∃ S B C : Nat → Nat, ∃ rs ws : Nat → Int32, ∃ FO : Nat → Nat, ∃ ea wr : Nat → Int32, ∃ L : Nat → Nat, ∃ od rd wt la pl : Nat → Int32,
    u = (nI T, nI K, nI Wl, nI Ml, nI cc, nI bg, nI kp, nI hz, nI os, oc, bs, zS S, zS B, zS C, rs, ws, zS FO, ea, wr, zS L, od) ∧ v = (nI T, nI K, nI Wl, nI Ml, nI cc, bs, zS S, zS B, zS C, rd, wt, la, pl) ∧ zInv T K Wl Ml cc bg kp hz os oc S B C rs ws FO ea wr L od rd wt la
theorem i_up {k : Nat} {u : SX} {v : SY} (h : i_Rel k u v) : i_Rel (k + 5) u v := h
section
variable {T K Wl Ml cc bg kp hz os : Nat} {oc : Int32} {bs : Nat → Int32} {S B C : Nat → Nat} {rs ws : Nat → Int32} {FO : Nat → Nat} {ea wr : Nat → Int32} {L : Nat → Nat} {od : Nat → Int32} {rd wt la pl : Nat → Int32}
theorem zz_in {k : Nat} (h : zInv T K Wl Ml cc bg kp hz os oc S B C rs ws FO ea wr L od rd wt la) : i_Rel k (nI T, nI K, nI Wl, nI Ml, nI cc, nI bg, nI kp, nI hz, nI os, oc, bs, zS S, zS B, zS C, rs, ws, zS FO, ea, wr, zS L, od) (nI T, nI K, nI Wl, nI Ml, nI cc, bs, zS S, zS B, zS C, rd, wt, la, pl) :=
  ⟨T, K, Wl, Ml, cc, bg, kp, hz, os, oc, bs, S, B, C, rs, ws, FO, ea, wr, L, od, rd, wt, la, pl, rfl, rfl, h⟩
end
theorem zz_el {P : SX → SY → Prop} {k : Nat} {u : SX} {v : SY}
    (h : ∀ (T K Wl Ml cc bg kp hz os : Nat) (oc : Int32) (bs : Nat → Int32) (S B C : Nat → Nat) (rs ws : Nat → Int32) (FO : Nat → Nat) (ea wr : Nat → Int32) (L : Nat → Nat) (od rd wt la pl : Nat → Int32),
      zInv T K Wl Ml cc bg kp hz os oc S B C rs ws FO ea wr L od rd wt la → P (nI T, nI K, nI Wl, nI Ml, nI cc, nI bg, nI kp, nI hz, nI os, oc, bs, zS S, zS B, zS C, rs, ws, zS FO, ea, wr, zS L, od) (nI T, nI K, nI Wl, nI Ml, nI cc, bs, zS S, zS B, zS C, rd, wt, la, pl)) (I : i_Rel k u v) : P u v :=
  Exists.elim I fun T I => Exists.elim I fun K I => Exists.elim I fun Wl I => Exists.elim I fun Ml I => Exists.elim I fun cc I => Exists.elim I fun bg I => Exists.elim I fun kp I => Exists.elim I fun hz I => Exists.elim I fun os I => Exists.elim I fun oc I => Exists.elim I fun bs I => Exists.elim I fun S I => Exists.elim I fun B I => Exists.elim I fun C I => Exists.elim I fun rs I => Exists.elim I fun ws I => Exists.elim I fun FO I => Exists.elim I fun ea I => Exists.elim I fun wr I => Exists.elim I fun L I => Exists.elim I fun od I => Exists.elim I fun rd I => Exists.elim I fun wt I => Exists.elim I fun la I => Exists.elim I fun pl I =>
    Eq.mpr (congr (congrArg P I.1) I.2.1) (h T K Wl Ml cc bg kp hz os oc bs S B C rs ws FO ea wr L od rd wt la pl I.2.2)
/-! the constructors -/
theorem zcp (p : Int32) {a b : Nat} (hab : a ≤ b) (hb : b ≤ 256) : ∃ n, n ≤ b ∧ (∀ (post : Int32 → Prop) (u : SX), post (nI n) → wpX_clamp post u p (nI a) (nI b)) ∧ (∀ post : Int32 → Prop, post (nI n) → wpY_clamp post p (nI a) (nI b)) := by
  by_cases h1 : nI a ≤ p
  · have h0 : ¬ p < 0 := by
      rw [Int32.le_iff_toInt_le, nI_toInt (by omega)] at h1
      rw [Int32.lt_iff_toInt_lt]
      have := show (0 : Int32).toInt = 0 by decide
      omega
    obtain ⟨n, hn, rfl⟩ := nI_of h0
    by_cases h2 : n ≤ b
    · exact ⟨n, h2, fun post u hp => br_t h1 (br_t (nI_le h2 (by omega)) hp), fun post hp => br_t h1 (br_t (nI_le h2 (by omega)) hp)⟩
    · exact ⟨b, Nat.le_refl b, fun post u hp => br_t h1 (br_f (nI_ge (by omega) hn) hp), fun post hp => br_t h1 (br_f (nI_ge (by omega) hn) hp)⟩
  · exact ⟨a, hab, fun post u hp => br_f h1 hp, fun post hp => br_f h1 hp⟩
def zm7 (i : Nat) : Nat → Int32 := fun j => if j < i then -7 else 0
theorem zm7_s (i : Nat) : upd (zm7 i) i (-7) = zm7 (i + 1) := by
  funext j
  unfold upd zm7
  by_cases h : j = i
  · rw [if_pos h, if_pos (by omega)]
  · rw [if_neg h]
    by_cases h2 : j < i
    · rw [if_pos h2, if_pos (by omega)]
    · rw [if_neg h2, if_neg (by omega)]
theorem zm7_0 : zm7 0 = fun _ => 0 := by
  funext j; exact if_neg (Nat.not_lt_zero j)
section
variable {T K Wl Ml cc bg kp hz os : Nat} {oc : Int32} {bs : Nat → Int32} {S B C : Nat → Nat} {rs ws : Nat → Int32} {FO : Nat → Nat} {ea wr : Nat → Int32} {L : Nat → Nat} {od : Nat → Int32} {rd wt la pl : Nat → Int32}
theorem xw_in146 {qost : SX → Prop} (hp : qost (nI T, nI K, nI Wl, nI Ml, nI cc, nI bg, nI kp, nI hz, nI os, oc, zm7 32, zS S, zS B, zS C, rs, ws, zS FO, ea, wr, zS L, od)) : ∀ d i, i + d = 32 → wX_init_146 qost (nI T) (nI K) (nI Wl) (nI Ml) (nI cc) (nI bg) (nI kp) (nI hz) (nI os) oc (d + 1) (nI i) (zm7 i) (zS S) (zS B) (zS C) rs ws (zS FO) ea wr (zS L) od := by
  intro d
  induction d with
  | zero =>
    intro i hi
    obtain rfl : i = 32 := by omega
    exact br_t (nI_le (a := 32) (b := 32) (Nat.le_refl _) (by decide)) hp
  | succ d ih =>
    intro i hi
    exact br_f (nI_ge (b := 32) (by omega) (by decide)) ⟨zi_in (by omega), nm_r (e' := zm7 (i + 1)) (by rw [nI_clamp (show i < 2 ^ 31 by omega), zm7_s]) (nm_r (nI_1 i) (ih (i + 1) (by omega)))⟩
theorem yw_in120 {qost : SY → Prop} (hp : qost (nI T, nI K, nI Wl, nI Ml, nI cc, zm7 32, zS S, zS B, zS C, rd, wt, la, pl)) : ∀ d i, i + d = 32 → wY_init_120 qost (nI T) (nI K) (nI Wl) (nI Ml) (nI cc) (d + 1) (nI i) (zm7 i) (zS S) (zS B) (zS C) rd wt la pl := by
  intro d
  induction d with
  | zero =>
    intro i hi
    obtain rfl : i = 32 := by omega
    exact br_t (nI_le (a := 32) (b := 32) (Nat.le_refl _) (by decide)) hp
  | succ d ih =>
    intro i hi
    exact br_f (nI_ge (b := 32) (by omega) (by decide)) ⟨zi_in (by omega), nm_r (e' := zm7 (i + 1)) (by rw [nI_clamp (show i < 2 ^ 31 by omega), zm7_s]) (nm_r (nI_1 i) (ih (i + 1) (by omega)))⟩
end
theorem i_vc0 (k0 : Int32) (k1 : Int32) (k2 : Int32) (k3 : Int32) : wpX_init (fun u => wpY_init (fun v => i_Rel 4 u v) k0 k1 k2 k3) k0 k1 k2 k3 := by
  obtain ⟨T, hT, x0, y0⟩ := zcp k0 (a := 2) (b := 32) (by decide) (by decide)
  obtain ⟨K, hK, x1, y1⟩ := zcp k1 (a := 2) (b := 32) (by decide) (by decide)
  obtain ⟨Wl, hW, x2, y2⟩ := zcp k2 (a := 1) (b := 8) (by decide) (by decide)
  obtain ⟨Ml, hM, x3, y3⟩ := zcp k3 (a := 4) (b := 256) (by decide) (by decide)
  have hx := xw_in146 (T := T) (K := K) (Wl := Wl) (Ml := Ml) (cc := 0) (bg := 0) (kp := 0) (hz := 0) (os := 0) (oc := 0) (S := fun _ => 0) (B := fun _ => 0) (C := fun _ => 0) (rs := fun _ => 0) (ws := fun _ => 0) (FO := fun _ => 0) (ea := fun _ => 0) (wr := fun _ => 0) (L := fun _ => 0) (od := fun _ => 0)
    (qost := fun u => wpY_init (fun v => i_Rel 4 u v) k0 k1 k2 k3) ?_ 32 0 (by omega)
  · unfold wpX_init
    refine x0 _ _ (x1 _ _ (x2 _ _ (x3 _ _ ⟨33, ?_⟩)))
    rw [zm7_0] at hx
    exact hx
  · unfold wpY_init
    refine y0 _ (y1 _ (y2 _ (y3 _ ⟨33, ?_⟩)))
    have hy := yw_in120 (T := T) (K := K) (Wl := Wl) (Ml := Ml) (cc := 0) (S := fun _ => 0) (B := fun _ => 0) (C := fun _ => 0) (rd := fun _ => 0) (wt := fun _ => 0) (la := fun _ => 0) (pl := fun _ => 0)
      (qost := fun v => i_Rel 4 (nI T, nI K, nI Wl, nI Ml, nI 0, nI 0, nI 0, nI 0, nI 0, 0, zm7 32, zS (fun _ => 0), zS (fun _ => 0), zS (fun _ => 0), (fun _ => 0), (fun _ => 0), zS (fun _ => 0), (fun _ => 0), (fun _ => 0), zS (fun _ => 0), (fun _ => 0)) v) ?_ 32 0 (by omega)
    · rw [zm7_0] at hy
      exact hy
    · exact zz_in (zI_0 hT hK hW hM (fun _ => rfl) (fun _ => rfl) (fun _ => rfl) (fun _ => rfl) (fun _ => rfl) (fun _ _ _ _ => ⟨rfl, rfl⟩))
end
section
/-! the calls that begin, read, write -/
theorem i_vc_begin {k : Nat} {u : SX} {v : SY} (I : i_Rel k u v) (hk : k + 5 ≤ 2564) : wpX_begin (fun r u' => wpY_begin (fun r' v' => r' = r ∧ i_Rel (k + 5) u' v') v) u := by
  refine zz_el (P := fun u v => wpX_begin (fun r u' => wpY_begin (fun r' v' => r' = r ∧ i_Rel (k + 5) u' v') v) u) ?_ I
  intro T K Wl Ml cc bg kp hz os oc bs S B C rs ws FO ea wr L od rd wt la pl hI
  have hI' := hI
  obtain ⟨⟨hK, hW, hM⟩, hb, hH, ⟨hk1, hk2⟩, hBi, hti, hCo⟩ := hI'
  have hT := zBas_T hb
  have hcc := zBas_cc hb
  exact xw_begin hb (fun q => yw_begin hb (fun w => by omega) (fun _ => ⟨rfl, zz_in (zI_begin hI q)⟩)) (fun q => yw_begin hb (fun _ => ⟨rfl, zz_in hI⟩) (fun w => by omega))
theorem i_vc_get {k : Nat} {u : SX} {v : SY} (I : i_Rel k u v) (hk : k + 5 ≤ 2564) (v1 : Int32) (v2 : Int32) : wpX_get (fun r u' => wpY_get (fun r' v' => r' = r ∧ i_Rel (k + 5) u' v') v v1 v2) u v1 v2 := by
  refine zz_el (P := fun u v => wpX_get (fun r u' => wpY_get (fun r' v' => r' = r ∧ i_Rel (k + 5) u' v') v v1 v2) u v1 v2) ?_ I
  intro T K Wl Ml cc bg kp hz os oc bs S B C rs ws FO ea wr L od rd wt la pl hI
  have hI' := hI
  obtain ⟨⟨hK, hW, hM⟩, hb, hH, ⟨hk1, hk2⟩, hBi, hti, hCo⟩ := hI'
  have hT := zBas_T hb
  have hcc := zBas_cc hb
  unfold wpX_get wpY_get
  by_cases h1 : ∃ t, t < T ∧ v1 = nI t
  · obtain ⟨t, ht, rfl⟩ := h1
    have ht32 : t < 32 := by omega
    refine xw_txn hT ht (br_f (by decide) ?_)
    by_cases h2 : ∃ j, j < K ∧ v2 = nI j
    · obtain ⟨j, hj, rfl⟩ := h2
      have hj32 : j < 32 := by omega
      refine xw_key hK hj (br_f (by decide) ⟨zi_in ht32, zi (zS_1 ht32 (zBas_S hb t)) (fun hS => ?_) (fun hS => ?_)⟩)
      · rcases lk_out (pl := pl) (bs := bs) hI hS (Nat.le_refl j) hj with ⟨kq, rq, rdq, hI2, hX, hY⟩ | ⟨hX, hY⟩
        · refine hX _ (br_f (by decide) (xw_view ht32 hj32 hb ?_))
          refine yw_ck ht (Nat.le_refl j) hj hT hK (zBas_S hb t) (fun _ => br_t rfl ?_) (fun w => absurd hS w)
          exact hY _ (br_f (by decide) (yw_view ht32 hj32 hb hI2.2.2.2.2.2.1 ⟨rfl, zz_in hI2⟩))
        · refine hX _ (br_t rfl ?_)
          refine yw_ck ht (Nat.le_refl j) hj hT hK (zBas_S hb t) (fun _ => br_t rfl ?_) (fun w => absurd hS w)
          exact hY _ (br_t rfl ⟨rfl, zz_in hI⟩)
      · exact yw_ck ht (Nat.le_refl j) hj hT hK (zBas_S hb t) (fun w => absurd w hS) (fun _ => br_f (by decide) ⟨rfl, zz_in hI⟩)
    · exact xw_keyF hK h2 (br_t rfl (yw_ckk ht hT hK h2 (br_f (by decide) ⟨rfl, zz_in hI⟩)))
  · refine xw_txnF hT h1 (br_t rfl ?_)
    unfold wpY_check
    exact yw_txnF hT h1 (br_f (by decide) (br_f (by decide) ⟨rfl, zz_in hI⟩))
theorem i_vc_count {k : Nat} {u : SX} {v : SY} (I : i_Rel k u v) (hk : k + 5 ≤ 2564) (v1 : Int32) (v2 : Int32) (v3 : Int32) (v4 : Int32) : wpX_count (fun r u' => wpY_count (fun r' v' => r' = r ∧ i_Rel (k + 5) u' v') v v1 v2 v3 v4) u v1 v2 v3 v4 := by
  refine zz_el (P := fun u v => wpX_count (fun r u' => wpY_count (fun r' v' => r' = r ∧ i_Rel (k + 5) u' v') v v1 v2 v3 v4) u v1 v2 v3 v4) ?_ I
  intro T K Wl Ml cc bg kp hz os oc bs S B C rs ws FO ea wr L od rd wt la pl hI
  have hI' := hI
  obtain ⟨⟨hK, hW, hM⟩, hb, hH, ⟨hk1, hk2⟩, hBi, hti, hCo⟩ := hI'
  have hT := zBas_T hb
  have hcc := zBas_cc hb
  unfold wpX_count wpY_count
  obtain ⟨r, hr, cX, cY⟩ := ck_out (Wl := Wl) (Ml := Ml) (cc := cc) (bg := bg) (kp := kp) (hz := hz) (os := os) (oc := oc) (bs := bs) (B := B) (C := C) (rs := rs) (ws := ws) (FO := FO) (ea := ea) (wr := wr) (L := L) (od := od) (rd := rd) (wt := wt) (la := la) (pl := pl) hT hK (zBas_S hb) v1 v2 v3
  refine cX _ ?_
  rcases hr with ⟨rfl, t, lo, hi, ht, hlo, hhi, hS, rfl, rfl, rfl⟩ | hr
  · have ht32 : t < 32 := by omega
    refine br_t rfl ?_
    rcases lk_out (pl := pl) (bs := bs) hI hS hlo hhi with ⟨kq, rq, rdq, hI2, hX, hY⟩ | ⟨hX, hY⟩
    · obtain ⟨r, lX, lY⟩ := cnt_out (K := K) (Wl := Wl) (Ml := Ml) (kp := kq) (hz := hz) (os := os) (oc := oc) (bs := bs) (FO := FO) (ea := ea) (od := od) (pl := pl) (p3 := v4) ht32 (show hi < 32 by omega) hb hI2.2.2.2.2.2.1 (hi + 1 - lo) lo 0 (by omega)
      refine hX _ (br_f (by decide) ⟨hi + 1 - lo + 1, lX _ ?_⟩)
      exact cY _ (br_t rfl (hY _ (br_f (by decide) ⟨hi + 1 - lo + 1, lY _ ⟨rfl, zz_in hI2⟩⟩)))
    · refine hX _ (br_t rfl ?_)
      exact cY _ (br_t rfl (hY _ (br_t rfl ⟨rfl, zz_in hI⟩)))
  · exact br_f hr (cY _ (br_f hr ⟨rfl, zz_in hI⟩))
theorem i_vc_sum {k : Nat} {u : SX} {v : SY} (I : i_Rel k u v) (hk : k + 5 ≤ 2564) (v1 : Int32) (v2 : Int32) (v3 : Int32) : wpX_sum (fun r u' => wpY_sum (fun r' v' => r' = r ∧ i_Rel (k + 5) u' v') v v1 v2 v3) u v1 v2 v3 := by
  refine zz_el (P := fun u v => wpX_sum (fun r u' => wpY_sum (fun r' v' => r' = r ∧ i_Rel (k + 5) u' v') v v1 v2 v3) u v1 v2 v3) ?_ I
  intro T K Wl Ml cc bg kp hz os oc bs S B C rs ws FO ea wr L od rd wt la pl hI
  have hI' := hI
  obtain ⟨⟨hK, hW, hM⟩, hb, hH, ⟨hk1, hk2⟩, hBi, hti, hCo⟩ := hI'
  have hT := zBas_T hb
  have hcc := zBas_cc hb
  unfold wpX_sum wpY_sum
  obtain ⟨r, hr, cX, cY⟩ := ck_out (Wl := Wl) (Ml := Ml) (cc := cc) (bg := bg) (kp := kp) (hz := hz) (os := os) (oc := oc) (bs := bs) (B := B) (C := C) (rs := rs) (ws := ws) (FO := FO) (ea := ea) (wr := wr) (L := L) (od := od) (rd := rd) (wt := wt) (la := la) (pl := pl) hT hK (zBas_S hb) v1 v2 v3
  refine cX _ ?_
  rcases hr with ⟨rfl, t, lo, hi, ht, hlo, hhi, hS, rfl, rfl, rfl⟩ | hr
  · have ht32 : t < 32 := by omega
    refine br_t rfl ?_
    rcases lk_out (pl := pl) (bs := bs) hI hS hlo hhi with ⟨kq, rq, rdq, hI2, hX, hY⟩ | ⟨hX, hY⟩
    · obtain ⟨r, lX, lY⟩ := sum_out (K := K) (Wl := Wl) (Ml := Ml) (kp := kq) (hz := hz) (os := os) (oc := oc) (bs := bs) (FO := FO) (ea := ea) (od := od) (pl := pl) ht32 (show hi < 32 by omega) hb hI2.2.2.2.2.2.1 (hi + 1 - lo) lo 0 (by omega)
      refine hX _ (br_f (by decide) ⟨hi + 1 - lo + 1, lX _ ?_⟩)
      exact cY _ (br_t rfl (hY _ (br_f (by decide) ⟨hi + 1 - lo + 1, lY _ ⟨rfl, zz_in hI2⟩⟩)))
    · refine hX _ (br_t rfl ?_)
      exact cY _ (br_t rfl (hY _ (br_t rfl ⟨rfl, zz_in hI⟩)))
  · exact br_f hr (cY _ (br_f hr ⟨rfl, zz_in hI⟩))
theorem i_vc_next {k : Nat} {u : SX} {v : SY} (I : i_Rel k u v) (hk : k + 5 ≤ 2564) (v1 : Int32) (v2 : Int32) (v3 : Int32) : wpX_next (fun r u' => wpY_next (fun r' v' => r' = r ∧ i_Rel (k + 5) u' v') v v1 v2 v3) u v1 v2 v3 := by
  refine zz_el (P := fun u v => wpX_next (fun r u' => wpY_next (fun r' v' => r' = r ∧ i_Rel (k + 5) u' v') v v1 v2 v3) u v1 v2 v3) ?_ I
  intro T K Wl Ml cc bg kp hz os oc bs S B C rs ws FO ea wr L od rd wt la pl hI
  have hI' := hI
  obtain ⟨⟨hK, hW, hM⟩, hb, hH, ⟨hk1, hk2⟩, hBi, hti, hCo⟩ := hI'
  have hT := zBas_T hb
  have hcc := zBas_cc hb
  unfold wpX_next wpY_next
  obtain ⟨r, hr, cX, cY⟩ := ck_out (Wl := Wl) (Ml := Ml) (cc := cc) (bg := bg) (kp := kp) (hz := hz) (os := os) (oc := oc) (bs := bs) (B := B) (C := C) (rs := rs) (ws := ws) (FO := FO) (ea := ea) (wr := wr) (L := L) (od := od) (rd := rd) (wt := wt) (la := la) (pl := pl) hT hK (zBas_S hb) v1 v2 v3
  refine cX _ ?_
  rcases hr with ⟨rfl, t, lo, hi, ht, hlo, hhi, hS, rfl, rfl, rfl⟩ | hr
  · have ht32 : t < 32 := by omega
    refine br_t rfl ?_
    obtain ⟨f, m, m1, m2, nX, nY⟩ := next_out (K := K) (Wl := Wl) (Ml := Ml) (kp := kp) (hz := hz) (os := os) (oc := oc) (bs := bs) (FO := FO) (ea := ea) (od := od) (pl := pl) ht32 hlo (show hi < 32 by omega) hb hti
    rcases lk_out (pl := pl) (bs := bs) hI hS m1 (show m < K by omega) with ⟨kq, rq, rdq, hI2, hX, hY⟩ | ⟨hX, hY⟩
    · refine nX _ ?_
      unfold wX_next_70
      refine hX _ (br_f (by decide) ?_)
      refine cY _ (br_t rfl (nY _ ?_))
      unfold wY_next_66
      exact hY _ (br_f (by decide) ⟨rfl, zz_in hI2⟩)
    · refine nX _ ?_
      unfold wX_next_70
      refine hX _ (br_t rfl ?_)
      refine cY _ (br_t rfl (nY _ ?_))
      unfold wY_next_66
      exact hY _ (br_t rfl ⟨rfl, zz_in hI⟩)
  · exact br_f hr (cY _ (br_f hr ⟨rfl, zz_in hI⟩))
theorem i_vc_prev {k : Nat} {u : SX} {v : SY} (I : i_Rel k u v) (hk : k + 5 ≤ 2564) (v1 : Int32) (v2 : Int32) (v3 : Int32) : wpX_prev (fun r u' => wpY_prev (fun r' v' => r' = r ∧ i_Rel (k + 5) u' v') v v1 v2 v3) u v1 v2 v3 := by
  refine zz_el (P := fun u v => wpX_prev (fun r u' => wpY_prev (fun r' v' => r' = r ∧ i_Rel (k + 5) u' v') v v1 v2 v3) u v1 v2 v3) ?_ I
  intro T K Wl Ml cc bg kp hz os oc bs S B C rs ws FO ea wr L od rd wt la pl hI
  have hI' := hI
  obtain ⟨⟨hK, hW, hM⟩, hb, hH, ⟨hk1, hk2⟩, hBi, hti, hCo⟩ := hI'
  have hT := zBas_T hb
  have hcc := zBas_cc hb
  unfold wpX_prev wpY_prev
  obtain ⟨r, hr, cX, cY⟩ := ck_out (Wl := Wl) (Ml := Ml) (cc := cc) (bg := bg) (kp := kp) (hz := hz) (os := os) (oc := oc) (bs := bs) (B := B) (C := C) (rs := rs) (ws := ws) (FO := FO) (ea := ea) (wr := wr) (L := L) (od := od) (rd := rd) (wt := wt) (la := la) (pl := pl) hT hK (zBas_S hb) v1 v2 v3
  refine cX _ ?_
  rcases hr with ⟨rfl, t, lo, hi, ht, hlo, hhi, hS, rfl, rfl, rfl⟩ | hr
  · have ht32 : t < 32 := by omega
    refine br_t rfl ?_
    obtain ⟨f, m, m1, m2, nX, nY⟩ := prev_out (K := K) (Wl := Wl) (Ml := Ml) (kp := kp) (hz := hz) (os := os) (oc := oc) (bs := bs) (FO := FO) (ea := ea) (od := od) (pl := pl) ht32 hlo (show hi < 32 by omega) hb hti
    rcases lk_out (pl := pl) (bs := bs) hI hS m2 hhi with ⟨kq, rq, rdq, hI2, hX, hY⟩ | ⟨hX, hY⟩
    · refine nX _ ?_
      unfold wX_prev_70
      refine hX _ (br_f (by decide) ?_)
      refine cY _ (br_t rfl (nY _ ?_))
      unfold wY_prev_66
      exact hY _ (br_f (by decide) ⟨rfl, zz_in hI2⟩)
    · refine nX _ ?_
      unfold wX_prev_70
      refine hX _ (br_t rfl ?_)
      refine cY _ (br_t rfl (nY _ ?_))
      unfold wY_prev_66
      exact hY _ (br_t rfl ⟨rfl, zz_in hI⟩)
  · exact br_f hr (cY _ (br_f hr ⟨rfl, zz_in hI⟩))
theorem i_vc_put {k : Nat} {u : SX} {v : SY} (I : i_Rel k u v) (hk : k + 5 ≤ 2564) (v1 : Int32) (v2 : Int32) (v3 : Int32) : wpX_put (fun r u' => wpY_put (fun r' v' => r' = r ∧ i_Rel (k + 5) u' v') v v1 v2 v3) u v1 v2 v3 := by
  refine zz_el (P := fun u v => wpX_put (fun r u' => wpY_put (fun r' v' => r' = r ∧ i_Rel (k + 5) u' v') v v1 v2 v3) u v1 v2 v3) ?_ I
  intro T K Wl Ml cc bg kp hz os oc bs S B C rs ws FO ea wr L od rd wt la pl hI
  have hI' := hI
  obtain ⟨⟨hK, hW, hM⟩, hb, hH, ⟨hk1, hk2⟩, hBi, hti, hCo⟩ := hI'
  have hT := zBas_T hb
  have hcc := zBas_cc hb
  unfold wpX_put wpY_put
  by_cases h1 : ∃ t, t < T ∧ v1 = nI t
  · obtain ⟨t, ht, rfl⟩ := h1
    have ht32 : t < 32 := by omega
    refine xw_txn hT ht (br_f (by decide) ?_)
    by_cases h2 : ∃ j, j < K ∧ v2 = nI j
    · obtain ⟨j, hj, rfl⟩ := h2
      have hj32 : j < 32 := by omega
      refine xw_key hK hj (br_f (by decide) (br_c (fun h3 => yw_txn hT ht (br_t rfl (yw_key hK hj (br_t rfl (br_t h3 ⟨rfl, zz_in hI⟩))))) (fun h3 => br_c (fun h4 => ?_) (fun h4 => yw_txn hT ht (br_t rfl (yw_key hK hj (br_t rfl (br_f h3 (br_f h4 ⟨rfl, zz_in hI⟩)))))))))
      refine xw_buf ht32 hj32 (zBas_S hb t) hW (fun q1 q2 => yw_txn hT ht (br_t rfl (yw_key hK hj (br_t rfl (br_f h3 (br_t h4 ?_)))))) (fun q1 q2 q3 => yw_txn hT ht (br_t rfl (yw_key hK hj (br_t rfl (br_f h3 (br_t h4 ?_)))))) (fun q => yw_txn hT ht (br_t rfl (yw_key hK hj (br_t rfl (br_f h3 (br_t h4 ?_))))))
      · exact yw_write ht32 hj32 hK (zBas_S hb t) hW hBi hti (fun _ _ => ⟨rfl, zz_in (zI_buf hI q1 hj)⟩) (fun _ w2 w3 => q2.elim (fun w => absurd w w2) (fun w => absurd w w3)) (fun w => absurd q1 w)
      · exact yw_write ht32 hj32 hK (zBas_S hb t) hW hBi hti (fun _ w => w.elim (fun w => absurd w q2) (fun w => absurd w q3)) (fun _ _ _ => ⟨rfl, zz_in hI⟩) (fun w => absurd q1 w)
      · exact yw_write ht32 hj32 hK (zBas_S hb t) hW hBi hti (fun w => absurd w q) (fun w => absurd w q) (fun _ => ⟨rfl, zz_in hI⟩)
    · exact xw_keyF hK h2 (br_t rfl (yw_txn hT ht (br_t rfl (yw_keyF hK h2 (br_f (by decide) ⟨rfl, zz_in hI⟩)))))
  · exact xw_txnF hT h1 (br_t rfl (yw_txnF hT h1 (br_f (by decide) ⟨rfl, zz_in hI⟩)))
theorem i_vc_remove {k : Nat} {u : SX} {v : SY} (I : i_Rel k u v) (hk : k + 5 ≤ 2564) (v1 : Int32) (v2 : Int32) : wpX_remove (fun r u' => wpY_remove (fun r' v' => r' = r ∧ i_Rel (k + 5) u' v') v v1 v2) u v1 v2 := by
  refine zz_el (P := fun u v => wpX_remove (fun r u' => wpY_remove (fun r' v' => r' = r ∧ i_Rel (k + 5) u' v') v v1 v2) u v1 v2) ?_ I
  intro T K Wl Ml cc bg kp hz os oc bs S B C rs ws FO ea wr L od rd wt la pl hI
  have hI' := hI
  obtain ⟨⟨hK, hW, hM⟩, hb, hH, ⟨hk1, hk2⟩, hBi, hti, hCo⟩ := hI'
  have hT := zBas_T hb
  have hcc := zBas_cc hb
  unfold wpX_remove wpY_remove
  by_cases h1 : ∃ t, t < T ∧ v1 = nI t
  · obtain ⟨t, ht, rfl⟩ := h1
    have ht32 : t < 32 := by omega
    refine xw_txn hT ht (br_f (by decide) ?_)
    by_cases h2 : ∃ j, j < K ∧ v2 = nI j
    · obtain ⟨j, hj, rfl⟩ := h2
      have hj32 : j < 32 := by omega
      refine xw_key hK hj (br_f (by decide) ?_)
      refine xw_buf ht32 hj32 (zBas_S hb t) hW (fun q1 q2 => yw_txn hT ht (br_t rfl (yw_key hK hj (br_t rfl ?_)))) (fun q1 q2 q3 => yw_txn hT ht (br_t rfl (yw_key hK hj (br_t rfl ?_)))) (fun q => yw_txn hT ht (br_t rfl (yw_key hK hj (br_t rfl ?_))))
      · exact yw_write ht32 hj32 hK (zBas_S hb t) hW hBi hti (fun _ _ => ⟨rfl, zz_in (zI_buf hI q1 hj)⟩) (fun _ w2 w3 => q2.elim (fun w => absurd w w2) (fun w => absurd w w3)) (fun w => absurd q1 w)
      · exact yw_write ht32 hj32 hK (zBas_S hb t) hW hBi hti (fun _ w => w.elim (fun w => absurd w q2) (fun w => absurd w q3)) (fun _ _ _ => ⟨rfl, zz_in hI⟩) (fun w => absurd q1 w)
      · exact yw_write ht32 hj32 hK (zBas_S hb t) hW hBi hti (fun w => absurd w q) (fun w => absurd w q) (fun _ => ⟨rfl, zz_in hI⟩)
    · exact xw_keyF hK h2 (br_t rfl (yw_txn hT ht (br_t rfl (yw_keyF hK h2 (br_f (by decide) ⟨rfl, zz_in hI⟩)))))
  · exact xw_txnF hT h1 (br_t rfl (yw_txnF hT h1 (br_f (by decide) ⟨rfl, zz_in hI⟩)))
end
section
/-! the calls that end, judge, look up -/
theorem i_vc_commit {k : Nat} {u : SX} {v : SY} (I : i_Rel k u v) (hk : k + 5 ≤ 2564) (v1 : Int32) : wpX_commit (fun r u' => wpY_commit (fun r' v' => r' = r ∧ i_Rel (k + 5) u' v') v v1) u v1 := by
  refine zz_el (P := fun u v => wpX_commit (fun r u' => wpY_commit (fun r' v' => r' = r ∧ i_Rel (k + 5) u' v') v v1) u v1) ?_ I
  intro T K Wl Ml cc bg kp hz os oc bs S B C rs ws FO ea wr L od rd wt la pl hI
  have hI' := hI
  obtain ⟨⟨hK, hW, hM⟩, hb, hH, ⟨hk1, hk2⟩, hBi, hti, hCo⟩ := hI'
  have hT := zBas_T hb
  have hcc := zBas_cc hb
  by_cases h1 : ∃ t, t < T ∧ v1 = nI t
  · obtain ⟨t, ht, rfl⟩ := h1
    refine xw_commit ht hb hH hk1 hCo.1 (fun q => ?_) (fun q a h k1 k2 => ?_) (fun q a b h k1 k2 => ?_) (fun q a b n e h k1 k2 k3 k4 => ?_)
    · exact yw_commit ht hK hb hBi hti (fun _ => ⟨rfl, zz_in hI⟩) (fun w => absurd w q) (fun w => absurd w q) (fun w => absurd w q)
    · exact yw_commit ht hK hb hBi hti (fun w => absurd q w) (fun _ _ => ⟨rfl, zz_in (zI_drop hI q k1 k2)⟩) (fun _ w => absurd a w) (fun _ w => absurd a w)
    · exact yw_commit ht hK hb hBi hti (fun w => absurd q w) (fun _ w => absurd w a) (fun _ _ _ => ⟨rfl, zz_in (zI_drop hI q k1 k2)⟩) (fun _ _ w => absurd b w)
    · exact yw_commit ht hK hb hBi hti (fun w => absurd q w) (fun _ w => absurd w a) (fun _ _ w => absurd w b) (fun _ _ _ => ⟨rfl, zz_in (zI_com hI q k1 k2 k3 k4)⟩)
  · unfold wpX_commit wpY_commit
    refine xw_txnF hT h1 (br_t rfl ?_)
    unfold wpY_verdict
    exact yw_txnF hT h1 (br_f (by decide) (br_t rfl ⟨rfl, zz_in hI⟩))
theorem i_vc_abort {k : Nat} {u : SX} {v : SY} (I : i_Rel k u v) (hk : k + 5 ≤ 2564) (v1 : Int32) : wpX_abort (fun r u' => wpY_abort (fun r' v' => r' = r ∧ i_Rel (k + 5) u' v') v v1) u v1 := by
  refine zz_el (P := fun u v => wpX_abort (fun r u' => wpY_abort (fun r' v' => r' = r ∧ i_Rel (k + 5) u' v') v v1) u v1) ?_ I
  intro T K Wl Ml cc bg kp hz os oc bs S B C rs ws FO ea wr L od rd wt la pl hI
  have hI' := hI
  obtain ⟨⟨hK, hW, hM⟩, hb, hH, ⟨hk1, hk2⟩, hBi, hti, hCo⟩ := hI'
  have hT := zBas_T hb
  have hcc := zBas_cc hb
  unfold wpX_abort wpY_abort
  by_cases h1 : ∃ t, t < T ∧ v1 = nI t
  · obtain ⟨t, ht, rfl⟩ := h1
    have ht32 : t < 32 := by omega
    refine xw_txn hT ht (br_f (by decide) ⟨zi_in ht32, zi (zS_1 ht32 (zBas_S hb t)) (fun q => ?_) (fun q => ?_)⟩)
    · refine xw_drop q hb hH hk1 (fun h k1 k2 => ?_)
      exact yw_txn hT ht (br_t rfl ⟨zi_in ht32, br_t ((zS_1 ht32 (zBas_S hb t)).mpr q) ⟨zi_in ht32, nm_r (e' := zS (zU S t 3)) (zS_ut (by omega) rfl rfl) (yw_em ht32 ⟨rfl, zz_in (zI_drop hI q k1 k2)⟩)⟩⟩)
    · exact yw_txn hT ht (br_t rfl ⟨zi_in ht32, br_f (fun w => q ((zS_1 ht32 (zBas_S hb t)).mp w)) ⟨rfl, zz_in hI⟩⟩)
  · exact xw_txnF hT h1 (br_t rfl (yw_txnF hT h1 (br_f (by decide) ⟨rfl, zz_in hI⟩)))
theorem i_vc_verdict {k : Nat} {u : SX} {v : SY} (I : i_Rel k u v) (hk : k + 5 ≤ 2564) (v1 : Int32) : wpX_verdict (fun r => wpY_verdict (fun r' => r' = r ∧ i_Rel (k + 5) u v) v v1) u v1 := by
  refine zz_el (P := fun u v => wpX_verdict (fun r => wpY_verdict (fun r' => r' = r ∧ i_Rel (k + 5) u v) v v1) u v1) ?_ I
  intro T K Wl Ml cc bg kp hz os oc bs S B C rs ws FO ea wr L od rd wt la pl hI
  have hI' := hI
  obtain ⟨⟨hK, hW, hM⟩, hb, hH, ⟨hk1, hk2⟩, hBi, hti, hCo⟩ := hI'
  have hT := zBas_T hb
  have hcc := zBas_cc hb
  have hR : i_Rel (k + 5) (nI T, nI K, nI Wl, nI Ml, nI cc, nI bg, nI kp, nI hz, nI os, oc, bs, zS S, zS B, zS C, rs, ws, zS FO, ea, wr, zS L, od) (nI T, nI K, nI Wl, nI Ml, nI cc, bs, zS S, zS B, zS C, rd, wt, la, pl) := zz_in hI
  unfold wpX_verdict
  by_cases h1 : ∃ t, t < T ∧ v1 = nI t
  · obtain ⟨t, ht, rfl⟩ := h1
    have ht32 : t < 32 := by omega
    refine xw_txn hT ht (br_f (by decide) ⟨zi_in ht32, zi (zS_1 ht32 (zBas_S hb t)) (fun q => ?_) (fun q => ?_)⟩)
    · refine xw_judge ht32 hb (zFO_32 hb hCo.1) (fun a => ?_) (fun a b => ?_) (fun a b c => ?_)
      · exact yw_vd ht hK hb hBi hti (fun w => absurd q w) (fun _ _ => ⟨rfl, hR⟩) (fun _ w => absurd a w) (fun _ w => absurd a w)
      · have hu : zUns S B C rs ws t := by
          rcases b with ⟨c, b⟩ | ⟨n, c, b1, b2, b3⟩
          · exact zUns_df hb hCo.1 q b
          · exact zUns_dm hb q b1 b2 b3
        exact yw_vd ht hK hb hBi hti (fun w => absurd q w) (fun _ w => absurd w a) (fun _ _ _ => ⟨rfl, hR⟩) (fun _ _ w => absurd hu w)
      · have hu : ¬ zUns S B C rs ws t := fun w => (zUns_mp hb hCo.1 w).elim b c
        exact yw_vd ht hK hb hBi hti (fun w => absurd q w) (fun _ w => absurd w a) (fun _ _ w => absurd w hu) (fun _ _ _ => ⟨rfl, hR⟩)
    · exact yw_vd ht hK hb hBi hti (fun _ => ⟨rfl, hR⟩) (fun w => absurd w q) (fun w => absurd w q) (fun w => absurd w q)
  · refine xw_txnF hT h1 (br_t rfl ?_)
    unfold wpY_verdict
    exact yw_txnF hT h1 (br_f (by decide) ⟨rfl, hR⟩)
theorem i_vc_settle {k : Nat} {u : SX} {v : SY} (I : i_Rel k u v) (hk : k + 5 ≤ 2564) : wpX_settle (fun r u' => wpY_settle (fun r' v' => r' = r ∧ i_Rel (k + 5) u' v') v) u := by
  refine zz_el (P := fun u v => wpX_settle (fun r u' => wpY_settle (fun r' v' => r' = r ∧ i_Rel (k + 5) u' v') v) u) ?_ I
  intro T K Wl Ml cc bg kp hz os oc bs S B C rs ws FO ea wr L od rd wt la pl hI
  have hI' := hI
  obtain ⟨⟨hK, hW, hM⟩, hb, hH, ⟨hk1, hk2⟩, hBi, hti, hCo⟩ := hI'
  have hT := zBas_T hb
  have hcc := zBas_cc hb
  exact xw_settle hb hK (fun q => yw_settle hb hK hti (fun _ => ⟨rfl, zz_in hI⟩) (fun w => q.elim fun t h => absurd h (w t))) (fun q => yw_settle hb hK hti (fun w => w.elim fun t h => absurd h (q t)) (fun _ => ⟨rfl, zz_in (zI_settle hI)⟩))
theorem i_vc_status {k : Nat} {u : SX} {v : SY} (I : i_Rel k u v) (hk : k + 5 ≤ 2564) (v1 : Int32) : wpX_status (fun r => wpY_status (fun r' => r' = r ∧ i_Rel (k + 5) u v) v v1) u v1 := by
  refine zz_el (P := fun u v => wpX_status (fun r => wpY_status (fun r' => r' = r ∧ i_Rel (k + 5) u v) v v1) u v1) ?_ I
  intro T K Wl Ml cc bg kp hz os oc bs S B C rs ws FO ea wr L od rd wt la pl hI
  have hI' := hI
  obtain ⟨⟨hK, hW, hM⟩, hb, hH, ⟨hk1, hk2⟩, hBi, hti, hCo⟩ := hI'
  have hT := zBas_T hb
  have hcc := zBas_cc hb
  have hR : i_Rel (k + 5) (nI T, nI K, nI Wl, nI Ml, nI cc, nI bg, nI kp, nI hz, nI os, oc, bs, zS S, zS B, zS C, rs, ws, zS FO, ea, wr, zS L, od) (nI T, nI K, nI Wl, nI Ml, nI cc, bs, zS S, zS B, zS C, rd, wt, la, pl) := zz_in hI
  unfold wpX_status wpY_status
  by_cases h1 : ∃ t, t < T ∧ v1 = nI t
  · obtain ⟨t, ht, rfl⟩ := h1
    have ht32 : t < 32 := by omega
    exact xw_txn hT ht (br_f (by decide) ⟨zi_in ht32, yw_txn hT ht (br_t rfl ⟨zi_in ht32, rfl, hR⟩)⟩)
  · exact xw_txnF hT h1 (br_t rfl (yw_txnF hT h1 (br_f (by decide) ⟨rfl, hR⟩)))
theorem i_vc_beginOf {k : Nat} {u : SX} {v : SY} (I : i_Rel k u v) (hk : k + 5 ≤ 2564) (v1 : Int32) : wpX_beginOf (fun r => wpY_beginOf (fun r' => r' = r ∧ i_Rel (k + 5) u v) v v1) u v1 := by
  refine zz_el (P := fun u v => wpX_beginOf (fun r => wpY_beginOf (fun r' => r' = r ∧ i_Rel (k + 5) u v) v v1) u v1) ?_ I
  intro T K Wl Ml cc bg kp hz os oc bs S B C rs ws FO ea wr L od rd wt la pl hI
  have hI' := hI
  obtain ⟨⟨hK, hW, hM⟩, hb, hH, ⟨hk1, hk2⟩, hBi, hti, hCo⟩ := hI'
  have hT := zBas_T hb
  have hcc := zBas_cc hb
  have hR : i_Rel (k + 5) (nI T, nI K, nI Wl, nI Ml, nI cc, nI bg, nI kp, nI hz, nI os, oc, bs, zS S, zS B, zS C, rs, ws, zS FO, ea, wr, zS L, od) (nI T, nI K, nI Wl, nI Ml, nI cc, bs, zS S, zS B, zS C, rd, wt, la, pl) := zz_in hI
  unfold wpX_beginOf wpY_beginOf
  by_cases h1 : ∃ t, t < T ∧ v1 = nI t
  · obtain ⟨t, ht, rfl⟩ := h1
    have ht32 : t < 32 := by omega
    exact xw_txn hT ht (br_f (by decide) ⟨zi_in ht32, br_c (fun q => yw_txn hT ht (br_t rfl ⟨zi_in ht32, br_t q ⟨rfl, hR⟩⟩)) (fun q => ⟨zi_in ht32, yw_txn hT ht (br_t rfl ⟨zi_in ht32, br_f q ⟨zi_in ht32, rfl, hR⟩⟩)⟩)⟩)
  · exact xw_txnF hT h1 (br_t rfl (yw_txnF hT h1 (br_f (by decide) ⟨rfl, hR⟩)))
theorem i_vc_commitOf {k : Nat} {u : SX} {v : SY} (I : i_Rel k u v) (hk : k + 5 ≤ 2564) (v1 : Int32) : wpX_commitOf (fun r => wpY_commitOf (fun r' => r' = r ∧ i_Rel (k + 5) u v) v v1) u v1 := by
  refine zz_el (P := fun u v => wpX_commitOf (fun r => wpY_commitOf (fun r' => r' = r ∧ i_Rel (k + 5) u v) v v1) u v1) ?_ I
  intro T K Wl Ml cc bg kp hz os oc bs S B C rs ws FO ea wr L od rd wt la pl hI
  have hI' := hI
  obtain ⟨⟨hK, hW, hM⟩, hb, hH, ⟨hk1, hk2⟩, hBi, hti, hCo⟩ := hI'
  have hT := zBas_T hb
  have hcc := zBas_cc hb
  have hR : i_Rel (k + 5) (nI T, nI K, nI Wl, nI Ml, nI cc, nI bg, nI kp, nI hz, nI os, oc, bs, zS S, zS B, zS C, rs, ws, zS FO, ea, wr, zS L, od) (nI T, nI K, nI Wl, nI Ml, nI cc, bs, zS S, zS B, zS C, rd, wt, la, pl) := zz_in hI
  unfold wpX_commitOf wpY_commitOf
  by_cases h1 : ∃ t, t < T ∧ v1 = nI t
  · obtain ⟨t, ht, rfl⟩ := h1
    have ht32 : t < 32 := by omega
    exact xw_txn hT ht (br_f (by decide) ⟨zi_in ht32, br_c (fun q => ⟨zi_in ht32, yw_txn hT ht (br_t rfl ⟨zi_in ht32, br_t q ⟨zi_in ht32, rfl, hR⟩⟩)⟩) (fun q => yw_txn hT ht (br_t rfl ⟨zi_in ht32, br_f q ⟨rfl, hR⟩⟩))⟩)
  · exact xw_txnF hT h1 (br_t rfl (yw_txnF hT h1 (br_f (by decide) ⟨rfl, hR⟩)))
theorem i_vc_conflict {k : Nat} {u : SX} {v : SY} (I : i_Rel k u v) (hk : k + 5 ≤ 2564) (v1 : Int32) (v2 : Int32) : wpX_conflict (fun r => wpY_conflict (fun r' => r' = r ∧ i_Rel (k + 5) u v) v v1 v2) u v1 v2 := by
  refine zz_el (P := fun u v => wpX_conflict (fun r => wpY_conflict (fun r' => r' = r ∧ i_Rel (k + 5) u v) v v1 v2) u v1 v2) ?_ I
  intro T K Wl Ml cc bg kp hz os oc bs S B C rs ws FO ea wr L od rd wt la pl hI
  have hI' := hI
  obtain ⟨⟨hK, hW, hM⟩, hb, hH, ⟨hk1, hk2⟩, hBi, hti, hCo⟩ := hI'
  have hT := zBas_T hb
  have hcc := zBas_cc hb
  have hR : i_Rel (k + 5) (nI T, nI K, nI Wl, nI Ml, nI cc, nI bg, nI kp, nI hz, nI os, oc, bs, zS S, zS B, zS C, rs, ws, zS FO, ea, wr, zS L, od) (nI T, nI K, nI Wl, nI Ml, nI cc, bs, zS S, zS B, zS C, rd, wt, la, pl) := zz_in hI
  unfold wpX_conflict
  by_cases h1 : ∃ t, t < T ∧ v1 = nI t
  · obtain ⟨a, ha, rfl⟩ := h1
    refine xw_txn hT ha (br_f (by decide) ?_)
    by_cases h2 : ∃ t, t < T ∧ v2 = nI t
    · obtain ⟨b, hb', rfl⟩ := h2
      refine xw_txn hT hb' (br_f (by decide) ?_)
      exact xw_conf (by omega) (by omega) hb (fun q => br_f (by decide) (yw_conf ha hb' hK hb hBi hti (fun _ => ⟨rfl, hR⟩) (fun w => absurd q w))) (fun q => br_t rfl (yw_conf ha hb' hK hb hBi hti (fun w => absurd w q) (fun _ => ⟨rfl, hR⟩)))
    · refine xw_txnF hT h2 (br_t rfl ?_)
      unfold wpY_conflict
      exact yw_txn hT ha (br_t rfl (yw_txnF hT h2 (br_f (by decide) ⟨rfl, hR⟩)))
  · refine xw_txnF hT h1 (br_t rfl ?_)
    unfold wpY_conflict
    exact yw_txnF hT h1 (br_f (by decide) ⟨rfl, hR⟩)
theorem i_vc_marked {k : Nat} {u : SX} {v : SY} (I : i_Rel k u v) (hk : k + 5 ≤ 2564) (v1 : Int32) (v2 : Int32) : wpX_marked (fun r => wpY_marked (fun r' => r' = r ∧ i_Rel (k + 5) u v) v v1 v2) u v1 v2 := by
  refine zz_el (P := fun u v => wpX_marked (fun r => wpY_marked (fun r' => r' = r ∧ i_Rel (k + 5) u v) v v1 v2) u v1 v2) ?_ I
  intro T K Wl Ml cc bg kp hz os oc bs S B C rs ws FO ea wr L od rd wt la pl hI
  have hI' := hI
  obtain ⟨⟨hK, hW, hM⟩, hb, hH, ⟨hk1, hk2⟩, hBi, hti, hCo⟩ := hI'
  have hT := zBas_T hb
  have hcc := zBas_cc hb
  have hR : i_Rel (k + 5) (nI T, nI K, nI Wl, nI Ml, nI cc, nI bg, nI kp, nI hz, nI os, oc, bs, zS S, zS B, zS C, rs, ws, zS FO, ea, wr, zS L, od) (nI T, nI K, nI Wl, nI Ml, nI cc, bs, zS S, zS B, zS C, rd, wt, la, pl) := zz_in hI
  have hhz := hH.1
  unfold wpX_marked wpY_marked
  by_cases h1 : ∃ t, t < T ∧ v1 = nI t
  · obtain ⟨t, ht, rfl⟩ := h1
    have ht32 : t < 32 := by omega
    refine xw_txn hT ht (br_f (by decide) ?_)
    by_cases h2 : ∃ j, j < K ∧ v2 = nI j
    · obtain ⟨j, hj, rfl⟩ := h2
      have hj32 : j < 32 := by omega
      refine xw_key hK hj (br_f (by decide) ?_)
      refine xw_keeps ht32 (by omega) hb (fun q => br_f (by decide) ⟨zi_in ht32, ?_⟩) (fun q => br_t rfl ?_)
      · refine yw_txn hT ht (br_t rfl (yw_key hK hj (br_t rfl ⟨zx_in ht32 hj32, zi (yr0 hti ht32 hj32) (fun w => ⟨?_, hR⟩) (fun w => ?_)⟩)))
        · rw [nI_clamp (show t < 2 ^ 31 by omega), zb_sh1 hj32, w]; rfl
        · refine yw_keeps ht32 hb hH (fun _ => br_f (by decide) ⟨?_, hR⟩) (fun z => absurd q z)
          rw [nI_clamp (show t < 2 ^ 31 by omega), zb_sh1 hj32, zbf w]; rfl
      · refine yw_txn hT ht (br_t rfl (yw_key hK hj (br_t rfl ⟨zx_in ht32 hj32, br_c (fun w => ⟨rfl, hR⟩) (fun w => ?_)⟩)))
        exact yw_keeps ht32 hb hH (fun z => absurd z q) (fun _ => br_t rfl ⟨rfl, hR⟩)
    · exact xw_keyF hK h2 (br_t rfl (yw_txn hT ht (br_t rfl (yw_keyF hK h2 (br_f (by decide) ⟨rfl, hR⟩)))))
  · exact xw_txnF hT h1 (br_t rfl (yw_txnF hT h1 (br_f (by decide) ⟨rfl, hR⟩)))
theorem i_vc_wrote {k : Nat} {u : SX} {v : SY} (I : i_Rel k u v) (hk : k + 5 ≤ 2564) (v1 : Int32) (v2 : Int32) : wpX_wrote (fun r => wpY_wrote (fun r' => r' = r ∧ i_Rel (k + 5) u v) v v1 v2) u v1 v2 := by
  refine zz_el (P := fun u v => wpX_wrote (fun r => wpY_wrote (fun r' => r' = r ∧ i_Rel (k + 5) u v) v v1 v2) u v1 v2) ?_ I
  intro T K Wl Ml cc bg kp hz os oc bs S B C rs ws FO ea wr L od rd wt la pl hI
  have hI' := hI
  obtain ⟨⟨hK, hW, hM⟩, hb, hH, ⟨hk1, hk2⟩, hBi, hti, hCo⟩ := hI'
  have hT := zBas_T hb
  have hcc := zBas_cc hb
  have hR : i_Rel (k + 5) (nI T, nI K, nI Wl, nI Ml, nI cc, nI bg, nI kp, nI hz, nI os, oc, bs, zS S, zS B, zS C, rs, ws, zS FO, ea, wr, zS L, od) (nI T, nI K, nI Wl, nI Ml, nI cc, bs, zS S, zS B, zS C, rd, wt, la, pl) := zz_in hI
  unfold wpX_wrote wpY_wrote
  by_cases h1 : ∃ t, t < T ∧ v1 = nI t
  · obtain ⟨t, ht, rfl⟩ := h1
    have ht32 : t < 32 := by omega
    refine xw_txn hT ht (br_f (by decide) ?_)
    by_cases h2 : ∃ j, j < K ∧ v2 = nI j
    · obtain ⟨j, hj, rfl⟩ := h2
      have hj32 : j < 32 := by omega
      refine xw_key hK hj (br_f (by decide) ⟨zi_in ht32, ?_⟩)
      refine yw_txn hT ht (br_t rfl (yw_key hK hj (br_t rfl ⟨zx_in ht32 hj32, zi (yw0 hti ht32 hj32) (fun w => ⟨?_, hR⟩) (fun w => ⟨?_, hR⟩)⟩)))
      · rw [nI_clamp (show t < 2 ^ 31 by omega), zb_sh1 hj32, w]; rfl
      · rw [nI_clamp (show t < 2 ^ 31 by omega), zb_sh1 hj32, zbf w]; rfl
    · exact xw_keyF hK h2 (br_t rfl (yw_txn hT ht (br_t rfl (yw_keyF hK h2 (br_f (by decide) ⟨rfl, hR⟩)))))
  · exact xw_txnF hT h1 (br_t rfl (yw_txnF hT h1 (br_f (by decide) ⟨rfl, hR⟩)))
theorem i_vc_markers {k : Nat} {u : SX} {v : SY} (I : i_Rel k u v) (hk : k + 5 ≤ 2564) : wpX_markers (fun r => wpY_markers (fun r' => r' = r ∧ i_Rel (k + 5) u v) v) u := by
  refine zz_el (P := fun u v => wpX_markers (fun r => wpY_markers (fun r' => r' = r ∧ i_Rel (k + 5) u v) v) u) ?_ I
  intro T K Wl Ml cc bg kp hz os oc bs S B C rs ws FO ea wr L od rd wt la pl hI
  have hI' := hI
  obtain ⟨⟨hK, hW, hM⟩, hb, hH, ⟨hk1, hk2⟩, hBi, hti, hCo⟩ := hI'
  have hT := zBas_T hb
  have hcc := zBas_cc hb
  have hR : i_Rel (k + 5) (nI T, nI K, nI Wl, nI Ml, nI cc, nI bg, nI kp, nI hz, nI os, oc, bs, zS S, zS B, zS C, rs, ws, zS FO, ea, wr, zS L, od) (nI T, nI K, nI Wl, nI Ml, nI cc, bs, zS S, zS B, zS C, rd, wt, la, pl) := zz_in hI
  unfold wpX_markers
  exact yw_mk hK hb hH hBi hti ⟨congrArg nI hk1.symm, hR⟩
theorem i_vc_commits {k : Nat} {u : SX} {v : SY} (I : i_Rel k u v) (hk : k + 5 ≤ 2564) : wpX_commits (fun r => wpY_commits (fun r' => r' = r ∧ i_Rel (k + 5) u v) v) u := by
  refine zz_el (P := fun u v => wpX_commits (fun r => wpY_commits (fun r' => r' = r ∧ i_Rel (k + 5) u v) v) u) ?_ I
  intro T K Wl Ml cc bg kp hz os oc bs S B C rs ws FO ea wr L od rd wt la pl hI
  have hI' := hI
  obtain ⟨⟨hK, hW, hM⟩, hb, hH, ⟨hk1, hk2⟩, hBi, hti, hCo⟩ := hI'
  have hT := zBas_T hb
  have hcc := zBas_cc hb
  unfold wpX_commits wpY_commits
  exact ⟨rfl, zz_in hI⟩
theorem i_vc_valueAt {k : Nat} {u : SX} {v : SY} (I : i_Rel k u v) (hk : k + 5 ≤ 2564) (v1 : Int32) (v2 : Int32) : wpX_valueAt (fun r => wpY_valueAt (fun r' => r' = r ∧ i_Rel (k + 5) u v) v v1 v2) u v1 v2 := by
  refine zz_el (P := fun u v => wpX_valueAt (fun r => wpY_valueAt (fun r' => r' = r ∧ i_Rel (k + 5) u v) v v1 v2) u v1 v2) ?_ I
  intro T K Wl Ml cc bg kp hz os oc bs S B C rs ws FO ea wr L od rd wt la pl hI
  have hI' := hI
  obtain ⟨⟨hK, hW, hM⟩, hb, hH, ⟨hk1, hk2⟩, hBi, hti, hCo⟩ := hI'
  have hT := zBas_T hb
  have hcc := zBas_cc hb
  have hR : i_Rel (k + 5) (nI T, nI K, nI Wl, nI Ml, nI cc, nI bg, nI kp, nI hz, nI os, oc, bs, zS S, zS B, zS C, rs, ws, zS FO, ea, wr, zS L, od) (nI T, nI K, nI Wl, nI Ml, nI cc, bs, zS S, zS B, zS C, rd, wt, la, pl) := zz_in hI
  unfold wpX_valueAt wpY_valueAt
  refine br_c (fun q => br_t q ⟨rfl, hR⟩) (fun q => br_c (fun q2 => br_f q (br_t q2 ⟨rfl, hR⟩)) (fun q2 => ?_))
  by_cases h2 : ∃ j, j < K ∧ v2 = nI j
  · obtain ⟨j, hj, rfl⟩ := h2
    have hj32 : j < 32 := by omega
    obtain ⟨n, hn, rfl⟩ := nI_of q
    have hn2 : n ≤ cc := by
      rw [nI_ltI (by omega) hn] at q2
      omega
    refine xw_key hK hj (br_f (by decide) (xw_ver hj32 hb hn2 (br_f q (br_f q2 (yw_key hK hj (br_t rfl ?_))))))
    exact yw_sa hn2 hj32 hb hti ⟨rfl, hR⟩
  · exact xw_keyF hK h2 (br_t rfl (br_f q (br_f q2 (yw_keyF hK h2 (br_f (by decide) ⟨rfl, hR⟩)))))
theorem i_vc_serialAt {k : Nat} {u : SX} {v : SY} (I : i_Rel k u v) (hk : k + 5 ≤ 2564) (v1 : Int32) : wpX_serialAt (fun r u' => wpY_serialAt (fun r' v' => r' = r ∧ i_Rel (k + 5) u' v') v v1) u v1 := by
  refine zz_el (P := fun u v => wpX_serialAt (fun r u' => wpY_serialAt (fun r' v' => r' = r ∧ i_Rel (k + 5) u' v') v v1) u v1) ?_ I
  intro T K Wl Ml cc bg kp hz os oc bs S B C rs ws FO ea wr L od rd wt la pl hI
  have hI' := hI
  obtain ⟨⟨hK, hW, hM⟩, hb, hH, ⟨hk1, hk2⟩, hBi, hti, hCo⟩ := hI'
  have hT := zBas_T hb
  have hcc := zBas_cc hb
  by_cases q : v1 < 0
  · refine br_t q (br_f ?_ ⟨rfl, zz_in hI⟩)
    exact fun w => absurd q (Int32.not_lt.mpr w)
  · obtain ⟨i, hi, rfl⟩ := nI_of q
    refine br_f q (zi (nI_ltI hi (by omega)) (fun q2 => br_c (fun q3 => ?_) (fun q3 => ?_)) (fun q2 => ?_))
    · obtain ⟨O, n, hg⟩ := zGM_ex (rs := rs) (ws := ws) hb
      refine xw_bo hb hCo.2.1 hg (fun o ho => ?_)
      have hn := hg.1
      have hI2 : zInv T K Wl Ml cc bg kp hz n 1 S B C rs ws FO ea wr L o rd wt la := ⟨⟨hK, hW, hM⟩, hb, hH, ⟨hk1, hk2⟩, hBi, hti, hCo.1, hCo.2.1, fun _ => ⟨O, hg, ho⟩⟩
      refine zi (nI_ltI hi (by omega)) (fun w => ⟨zi_in (by omega), ?_⟩) (fun w => ?_)
      · rw [nI_clamp hi, ho i w]
        exact yw_sr hi hK hb hBi hti hg (fun _ p => ⟨rfl, zz_in hI2⟩) (fun z => absurd w (by omega))
      · exact yw_sr hi hK hb hBi hti hg (fun z => absurd z w) (fun _ p => ⟨rfl, zz_in hI2⟩)
    · obtain ⟨O, hg, ho⟩ := hCo.2.2 q3
      have hn := hg.1
      refine zi (nI_ltI hi (by omega)) (fun w => ⟨zi_in (by omega), ?_⟩) (fun w => ?_)
      · rw [nI_clamp hi, ho i w]
        exact yw_sr hi hK hb hBi hti hg (fun _ p => ⟨rfl, zz_in hI⟩) (fun z => absurd w (by omega))
      · exact yw_sr hi hK hb hBi hti hg (fun z => absurd z w) (fun _ p => ⟨rfl, zz_in hI⟩)
    · obtain ⟨O, n, hg⟩ := zGM_ex (rs := rs) (ws := ws) hb
      have hn := hg.1
      exact yw_sr hi hK hb hBi hti hg (fun z => absurd z (by omega)) (fun _ p => ⟨rfl, zz_in hI⟩)
end
