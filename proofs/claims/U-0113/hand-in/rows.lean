section
theorem pk_us {f : Nat → Int32} {k : Nat} {x : Int32} : upd f k x k = x := if_pos rfl
theorem pk_un {f : Nat → Int32} {k j : Nat} {x : Int32} (h : j ≠ k) : upd f k x j = f j := if_neg h
theorem pk_uLs {f : Nat → Int64} {k : Nat} {x : Int64} : vp_updL f k x k = x := if_pos rfl
theorem pk_uLn {f : Nat → Int64} {k j : Nat} {x : Int64} (h : j ≠ k) : vp_updL f k x j = f j := if_neg h
theorem pk_sub {a b : Nat} (h : b ≤ a) : nI a - nI b = nI (a - b) := by
  obtain ⟨c, rfl⟩ : ∃ c, a = c + b := ⟨a - b, by omega⟩
  rw [← nI_add, Int32.add_sub_cancel, Nat.add_sub_cancel]
theorem pk_m1 (n : Nat) : nI (n + 1) + (-1) = nI n := by
  rw [← nI_1, Int32.add_assoc, show (1 : Int32) + (-1) = 0 from rfl, Int32.add_zero]
theorem pk_mul (a b : Nat) : nI a * nI b = nI (a * b) := (Int32.ofNat_mul a b).symm
theorem pk_div {a d : Nat} (ha : a < 2 ^ 31) (h0 : 0 < d) (hd : d < 2 ^ 31) : nI a / nI d = nI (a / d) := by
  apply Int32.toInt_inj.mp
  rw [lg_idiv_nonneg (by rw [nI_toInt ha]; omega) (by rw [nI_toInt hd]; omega), nI_toInt ha, nI_toInt hd, nI_toInt (Nat.lt_of_le_of_lt (Nat.div_le_self a d) ha)]
  first | rfl | exact (Int.natCast_ediv _ _).symm
theorem pk_rem {a d : Nat} (ha : a < 2 ^ 31) (h0 : 0 < d) (hd : d < 2 ^ 31) : nI a - nI a / nI d * nI d = nI (a % d) := by
  rw [pk_div ha h0 hd, pk_mul, pk_sub (Nat.div_mul_le_self a d)]
  exact congrArg nI (by have := Nat.div_add_mod' a d; omega)
theorem pk_sub_toInt {a b : Nat} (ha : a < 2 ^ 30) (hb : b < 2 ^ 30) : (nI a - nI b).toInt = (a : Int) - b := by
  rw [Int32.toInt_sub, nI_toInt (by omega), nI_toInt (by omega)]
  exact Int.bmod_eq_of_le (by omega) (by omega)
theorem pk_sneg {a b : Nat} (hb : b < 2 ^ 30) (h : a < b) : nI a - nI b < 0 := by
  rw [Int32.lt_iff_toInt_lt, pk_sub_toInt (by omega) hb, show (0 : Int32).toInt = 0 from by decide]
  omega
theorem pk_ix (x : Int32) {n : Nat} (hn : n < 2 ^ 31) : x < 0 ∨ nI n ≤ x ∨ ∃ j : Nat, j < n ∧ x = nI j := by
  by_cases h : x < 0
  · exact Or.inl h
  · obtain ⟨j, hj, rfl⟩ := nI_of h
    by_cases h2 : j < n
    · exact Or.inr (Or.inr ⟨j, h2, rfl⟩)
    · exact Or.inr (Or.inl (nI_le (by omega) hj))
theorem pk_le {x y : Int32} {A B : Prop} (a b : Nat) (f : a ≤ b → A) (g : b < a → B) (hx : x = nI a := by rfl) (hy : y = nI b := by rfl) (ha : a < 2 ^ 31 := by omega) (hb : b < 2 ^ 31 := by omega) : (x ≤ y → A) ∧ (¬ x ≤ y → B) := by
  subst hx hy
  rw [nI_leI ha hb]
  exact ⟨f, fun z => g (by omega)⟩
theorem pk_lt {x y : Int32} {A B : Prop} (a b : Nat) (f : a < b → A) (g : b ≤ a → B) (hx : x = nI a := by rfl) (hy : y = nI b := by rfl) (ha : a < 2 ^ 31 := by omega) (hb : b < 2 ^ 31 := by omega) : (x < y → A) ∧ (¬ x < y → B) := by
  subst hx hy
  rw [nI_ltI ha hb]
  exact ⟨f, fun z => g (by omega)⟩
theorem pk_eq {x y : Int32} {A B : Prop} (a b : Nat) (f : a = b → A) (g : a ≠ b → B) (hx : x = nI a := by rfl) (hy : y = nI b := by rfl) (ha : a < 2 ^ 31 := by omega) (hb : b < 2 ^ 31 := by omega) : (x = y → A) ∧ (¬ x = y → B) := by
  subst hx hy
  rw [nI_eq ha hb]
  exact ⟨f, g⟩
theorem pk_in {x : Int32} (n N : Nat) (h : n < N) (hx : x = nI n := by rfl) (hN : N < 2 ^ 31 := by omega) : vp_in x N := by
  subst hx
  exact vp_in_nI h hN
theorem pk_cl {x : Int32} (n : Nat) (hx : x = nI n := by rfl) (h : n < 2 ^ 31 := by omega) : x.toNatClampNeg = n := by
  subst hx
  exact nI_clamp h
theorem pk_tn {n : Nat} (h : n < 2 ^ 32) : (nI n).toBitVec.toNat = n := Nat.mod_eq_of_lt h
theorem pk_and (x : Int32) {m : Int32} (k : Nat) (hm : m.toBitVec.toNat = 2 ^ k - 1) : x &&& m = nI (x.toBitVec.toNat % 2 ^ k) := by
  apply Int32.toBitVec_inj.mp
  apply BitVec.eq_of_toNat_eq
  rw [Int32.toBitVec_and, BitVec.toNat_and, hm, Nat.and_two_pow_sub_one_eq_mod]
  show _ = (BitVec.ofNat 32 _).toNat
  rw [BitVec.toNat_ofNat]
  exact (Nat.mod_eq_of_lt (Nat.lt_of_le_of_lt (Nat.mod_le _ _) x.toBitVec.isLt)).symm
theorem pk_andN {n : Nat} (h : n < 2 ^ 32) {m : Int32} (k : Nat) (hm : m.toBitVec.toNat = 2 ^ k - 1) : nI n &&& m = nI (n % 2 ^ k) := by
  rw [pk_and _ k hm, pk_tn h]
theorem pk_andE (x : Int32) {m : Int32} (k : Nat) (hm : m.toBitVec.toNat = 2 ^ k - 1) : ∃ j : Nat, j < 2 ^ k ∧ x &&& m = nI j := ⟨_, Nat.mod_lt _ (Nat.two_pow_pos k), pk_and x k hm⟩
theorem pk_andIn (x : Int32) {m : Int32} (k : Nat) (hm : m.toBitVec.toNat = 2 ^ k - 1) (hk : k ≤ 30) : vp_in (x &&& m) (2 ^ k) := by
  obtain ⟨j, hj, e⟩ := pk_andE x k hm
  rw [e]
  exact vp_in_nI hj (Nat.lt_of_le_of_lt (Nat.pow_le_pow_right (by decide) hk) (by decide))
theorem pk_shl (a s : Int32) (k : Nat) (hs : (s.toBitVec.smod 32).toNat = k) : (a <<< s).toBitVec.toNat = a.toBitVec.toNat * 2 ^ k % 2 ^ 32 := by
  show (a.toBitVec <<< (s.toBitVec.smod 32).toNat).toNat = _
  rw [hs, BitVec.toNat_shiftLeft, Nat.shiftLeft_eq]
theorem pk_shlN {n : Nat} (s : Int32) (k : Nat) (hs : (s.toBitVec.smod 32).toNat = k) (h : n * 2 ^ k < 2 ^ 32) : nI n <<< s = nI (n * 2 ^ k) := by
  apply Int32.toBitVec_inj.mp
  apply BitVec.eq_of_toNat_eq
  have hn : n < 2 ^ 32 := Nat.lt_of_le_of_lt (Nat.le_mul_of_pos_right n (Nat.two_pow_pos k)) h
  rw [pk_shl _ _ k hs, pk_tn hn, pk_tn h, Nat.mod_eq_of_lt h]
theorem pk_shr (a s : Int32) (k : Nat) (hs : (s.toBitVec.smod 32).toNat = k) : (a >>> s).toInt = a.toInt >>> k := by
  show (a.toBitVec.sshiftRight (s.toBitVec.smod 32).toNat).toInt = _
  rw [hs, BitVec.toInt_sshiftRight]
  rfl
theorem pk_shrN {n : Nat} (h : n < 2 ^ 31) (s : Int32) (k : Nat) (hs : (s.toBitVec.smod 32).toNat = k) : nI n >>> s = nI (n / 2 ^ k) := by
  apply Int32.toInt_inj.mp
  have h2 : n / 2 ^ k ≤ n := Nat.div_le_self _ _
  rw [pk_shr _ _ k hs, nI_toInt h, nI_toInt (by omega), Int.shiftRight_eq_div_pow]
  rfl
def bt (x : Int32) (i : Nat) : Bool := x.toBitVec.getLsbD i
theorem b_ext {x y : Int32} (h : ∀ i, i < 32 → bt x i = bt y i) : x = y := Int32.toBitVec_inj.mp (BitVec.eq_of_getLsbD_eq (fun i hi => h i hi))
theorem b_or (x y : Int32) (i : Nat) : bt (x ||| y) i = (bt x i || bt y i) := by unfold bt; rw [Int32.toBitVec_or, BitVec.getLsbD_or]
theorem b_and (x y : Int32) (i : Nat) : bt (x &&& y) i = (bt x i && bt y i) := by unfold bt; rw [Int32.toBitVec_and, BitVec.getLsbD_and]
theorem b_xor (x y : Int32) (i : Nat) : bt (x ^^^ y) i = (bt x i ^^ bt y i) := by unfold bt; rw [Int32.toBitVec_xor, BitVec.getLsbD_xor]
theorem b_big {x : Int32} {i : Nat} (h : 32 ≤ i) : bt x i = false := BitVec.getLsbD_of_ge _ _ h
theorem b_255 (i : Nat) : bt 255 i = decide (i < 8) := by
  rcases Nat.lt_or_ge i 32 with h | h
  · exact (by decide +kernel : ∀ i, i < 32 → bt 255 i = decide (i < 8)) i h
  · rw [b_big h, decide_eq_false (by omega)]
theorem b_65535 (i : Nat) : bt 65535 i = decide (i < 16) := by
  rcases Nat.lt_or_ge i 32 with h | h
  · exact (by decide +kernel : ∀ i, i < 32 → bt 65535 i = decide (i < 16)) i h
  · rw [b_big h, decide_eq_false (by omega)]
theorem b_m1 : ∀ i, i < 32 → bt (-1) i = true := by decide +kernel
theorem b_0 (i : Nat) : bt 0 i = false := BitVec.getLsbD_zero
theorem s_l : ∀ n, n < 32 → ((nI n &&& 31).toBitVec.smod 32).toNat = n := by decide +kernel
theorem s_u : ∀ n, n < 32 → (((nI n).toUInt32 &&& Int32.toUInt32 31).toBitVec % 32).toNat = n := by decide +kernel
theorem b_shl (n : Nat) (hn : n < 32) (x : Int32) {i : Nat} (hi : i < 32) : bt (x <<< (nI n &&& 31)) i = (decide (n ≤ i) && bt x (i - n)) := by
  unfold bt
  rw [Int32.toBitVec_shiftLeft]
  show (x.toBitVec <<< ((nI n &&& 31).toBitVec.smod 32).toNat).getLsbD i = _
  rw [s_l n hn, BitVec.getLsbD_shiftLeft]
  rcases Nat.lt_or_ge i n with h | h
  · simp [h, Nat.not_le.mpr h]
  · simp [hi, h, Nat.not_lt.mpr h]
theorem b_ushr (n : Nat) (hn : n < 32) (x : Int32) (i : Nat) : bt ((x.toUInt32 >>> ((nI n).toUInt32 &&& Int32.toUInt32 31)).toInt32) i = bt x (n + i) := by
  show (x.toUInt32 >>> ((nI n).toUInt32 &&& Int32.toUInt32 31)).toBitVec.getLsbD i = x.toUInt32.toBitVec.getLsbD (n + i)
  rw [UInt32.toBitVec_shiftRight]
  show (x.toUInt32.toBitVec >>> (((nI n).toUInt32 &&& Int32.toUInt32 31).toBitVec % 32).toNat).getLsbD i = _
  rw [s_u n hn, BitVec.getLsbD_ushiftRight]
theorem b_sshr (n : Nat) (hn : n < 32) (x : Int32) {i : Nat} (hi : i < 32) : bt (x >>> (nI n &&& 31)) i = if n + i < 32 then bt x (n + i) else bt x 31 := by
  unfold bt
  rw [Int32.toBitVec_shiftRight]
  show (x.toBitVec.sshiftRight ((nI n &&& 31).toBitVec.smod 32).toNat).getLsbD i = _
  rw [s_l n hn, BitVec.getLsbD_sshiftRight, BitVec.msb_eq_getLsbD_last]
  simp [hi]
theorem b_shl8 (x : Int32) {i : Nat} (hi : i < 32) : bt (x <<< ((8 : Int32) &&& 31)) i = (decide (8 ≤ i) && bt x (i - 8)) := b_shl 8 (by omega) x hi
theorem b_shl16 (x : Int32) {i : Nat} (hi : i < 32) : bt (x <<< ((16 : Int32) &&& 31)) i = (decide (16 ≤ i) && bt x (i - 16)) := b_shl 16 (by omega) x hi
theorem b_shl24 (x : Int32) {i : Nat} (hi : i < 32) : bt (x <<< ((24 : Int32) &&& 31)) i = (decide (24 ≤ i) && bt x (i - 24)) := b_shl 24 (by omega) x hi
theorem b_sshr8 (x : Int32) {i : Nat} (hi : i < 32) : bt (x >>> ((8 : Int32) &&& 31)) i = if 8 + i < 32 then bt x (8 + i) else bt x 31 := b_sshr 8 (by omega) x hi
end
section
/-! base: booleans as ints, bits, arrays that hold a list -/
def wv_b : Bool → Int32
  | true => 1
  | false => 0
theorem wv_b_br {b : Bool} {A B : Prop} (f : b = false → A) (t : b = true → B) : (wv_b b = 0 → A) ∧ (¬ wv_b b = 0 → B) := by
  cases b
  · exact ⟨fun _ => f rfl, fun h => absurd rfl h⟩
  · exact ⟨fun h => absurd h (by decide), fun _ => t rfl⟩
theorem wv_b_br1 {b : Bool} {A B : Prop} (t : b = true → A) (f : b = false → B) : (wv_b b = 1 → A) ∧ (¬ wv_b b = 1 → B) := by
  cases b
  · exact ⟨fun h => absurd h (by decide), fun _ => f rfl⟩
  · exact ⟨fun _ => t rfl, fun h => absurd rfl h⟩
theorem wv_bt1 : ∀ i, i < 32 → bt 1 i = decide (i = 0) := by decide +kernel
theorem wv_bt_b (b : Bool) {i : Nat} (hi : i < 32) : bt (wv_b b) i = (b && decide (i = 0)) := by
  cases b
  · exact b_0 i
  · rw [Bool.true_and]; exact wv_bt1 i hi
theorem wv_bit (x : Int32) {r : Nat} (hr : r < 32) : (x >>> (nI r &&& 31)) &&& 1 = wv_b (bt x r) := by
  apply b_ext
  intro i hi
  rw [b_and, b_sshr r hr x hi, wv_bt1 i hi, wv_bt_b _ hi]
  by_cases h : i = 0
  · subst h
    rw [Nat.add_zero, if_pos hr]
  · rw [decide_eq_false h, Bool.and_false, Bool.and_false]
theorem wv_sh1 {r i : Nat} (hr : r < 32) (hi : i < 32) : bt ((1 : Int32) <<< (nI r &&& 31)) i = decide (i = r) := by
  rw [b_shl r hr 1 hi, wv_bt1 (i - r) (by omega), Bool.eq_iff_iff]
  simp only [Bool.and_eq_true, decide_eq_true_eq]
  omega
theorem wv_neg1 : (-1 : Int32) < 0 := by decide
theorem wv_nI_ne {n : Nat} (h : n < 2 ^ 31) {m : Int32} (hm : m < 0) : ¬ nI n = m := by
  intro e
  rw [← e] at hm
  exact nI_pos h hm
def wv_At (f : Nat → Int32) (i : Nat) (l : List Int32) : Prop := ∀ j x, l[j]? = some x → f (i + j) = x
theorem wv_lt {α : Type} {l : List α} {j : Nat} {x : α} (h : l[j]? = some x) : j < l.length := (List.getElem?_eq_some_iff.mp h).1
theorem wv_At_nil {f : Nat → Int32} {i : Nat} : wv_At f i [] := fun j x h => absurd (wv_lt h) (Nat.not_lt_zero j)
theorem wv_At_cons {f : Nat → Int32} {i : Nat} {x : Int32} {l : List Int32} : wv_At f i (x :: l) ↔ f i = x ∧ wv_At f (i + 1) l := by
  constructor
  · intro h
    refine ⟨h 0 x rfl, fun j y hy => ?_⟩
    exact (congrArg f (by omega : i + 1 + j = i + (j + 1))).trans (h (j + 1) y hy)
  · rintro ⟨h0, h1⟩ j y hy
    cases j with
    | zero => exact h0.trans (Option.some.inj hy)
    | succ j => exact (congrArg f (by omega : i + (j + 1) = i + 1 + j)).trans (h1 j y hy)
theorem wv_At_app {f : Nat → Int32} {i : Nat} {l m : List Int32} : wv_At f i (l ++ m) ↔ wv_At f i l ∧ wv_At f (i + l.length) m := by
  induction l generalizing i with
  | nil => exact ⟨fun h => ⟨wv_At_nil, h⟩, fun h => h.2⟩
  | cons x l ih =>
    have e : i + (x :: l).length = i + 1 + l.length := by rw [List.length_cons]; omega
    rw [List.cons_append, wv_At_cons, wv_At_cons, ih, e]
    exact and_assoc.symm
theorem wv_At_congr {f g : Nat → Int32} {i : Nat} {l : List Int32} (h : wv_At f i l) (hg : ∀ k, i ≤ k → k < i + l.length → g k = f k) : wv_At g i l := by
  intro j x hj
  have hl := wv_lt hj
  rw [hg (i + j) (by omega) (by omega)]
  exact h j x hj
theorem wv_At_upd {f : Nat → Int32} {i k : Nat} {v : Int32} {l : List Int32} (h : wv_At f i l) (hk : k < i ∨ i + l.length ≤ k) : wv_At (upd f k v) i l :=
  wv_At_congr h (fun j h1 h2 => pk_un (by omega))
theorem wv_At_range (f : Nat → Int32) (n : Nat) : wv_At f 0 ((List.range n).map f) := by
  intro j x hj
  obtain ⟨hl, e⟩ := List.getElem?_eq_some_iff.mp hj
  rw [List.getElem_map, List.getElem_range] at e
  rw [Nat.zero_add]
  exact e
theorem wv_At_drop {f : Nat → Int32} {l : List Int32} (k : Nat) (h : wv_At f 0 l) : wv_At f k (l.drop k) := by
  intro j x hj
  rw [List.getElem?_drop] at hj
  have := h (k + j) x hj
  rw [Nat.zero_add] at this
  exact this
/-- the same of a list of naturals -/
def wv_An (f : Nat → Int32) (i : Nat) (l : List Nat) : Prop := wv_At f i (l.map nI)
theorem wv_An_nil {f : Nat → Int32} {i : Nat} : wv_An f i [] := wv_At_nil
theorem wv_An_cons {f : Nat → Int32} {i x : Nat} {l : List Nat} : wv_An f i (x :: l) ↔ f i = nI x ∧ wv_An f (i + 1) l := wv_At_cons
theorem wv_An_app {f : Nat → Int32} {i : Nat} {l m : List Nat} : wv_An f i (l ++ m) ↔ wv_An f i l ∧ wv_An f (i + l.length) m := by
  unfold wv_An
  rw [List.map_append, wv_At_app, List.length_map]
theorem wv_An_get {f : Nat → Int32} {i j x : Nat} {l : List Nat} (h : wv_An f i l) (hj : l[j]? = some x) : f (i + j) = nI x :=
  h j (nI x) (by rw [List.getElem?_map, hj]; rfl)
theorem wv_An_of {f : Nat → Int32} {i : Nat} {l : List Nat} (h : ∀ j x, l[j]? = some x → f (i + j) = nI x) : wv_An f i l := by
  intro j x hj
  rw [List.getElem?_map] at hj
  cases e : l[j]? with
  | none => rw [e] at hj; cases hj
  | some y =>
    rw [e] at hj
    rw [← Option.some.inj hj]
    exact h j y e
theorem wv_An_congr {f g : Nat → Int32} {i : Nat} {l : List Nat} (h : wv_An f i l) (hg : ∀ k, i ≤ k → k < i + l.length → g k = f k) : wv_An g i l :=
  wv_At_congr h (fun k h1 h2 => hg k h1 (by rw [List.length_map] at h2; exact h2))
theorem wv_An_upd {f : Nat → Int32} {i k : Nat} {v : Int32} {l : List Nat} (h : wv_An f i l) (hk : k < i ∨ i + l.length ≤ k) : wv_An (upd f k v) i l :=
  wv_An_congr h (fun j h1 h2 => pk_un (by omega))
theorem wv_An_snoc {f : Nat → Int32} {i x : Nat} {l : List Nat} (h : wv_An f i l) : wv_An (upd f (i + l.length) (nI x)) i (l ++ [x]) :=
  wv_An_app.mpr ⟨wv_An_upd h (Or.inr (Nat.le_refl _)), wv_An_cons.mpr ⟨pk_us, wv_An_nil⟩⟩
theorem wv_An_drop {f : Nat → Int32} {l : List Nat} (k : Nat) (h : wv_An f 0 l) : wv_An f k (l.drop k) := by
  apply wv_An_of
  intro j x hj
  rw [List.getElem?_drop] at hj
  have := wv_An_get h hj
  rw [Nat.zero_add] at this
  exact this
/-- the place of each element -/
def wv_Pl (g : Nat → Int32) (l : List Nat) : Prop := ∀ j x, l[j]? = some x → g x = nI j
/-- the shift loop -/
def wv_sh (f : Nat → Int32) (k : Nat) : Nat → Nat → Int32
  | 0 => f
  | d + 1 => wv_sh (upd f (k + d + 1) (f (k + d))) k d
theorem wv_sh_at (k : Nat) : ∀ (d : Nat) (f : Nat → Int32) (j : Nat), wv_sh f k d j = if k < j ∧ j ≤ k + d then f (j - 1) else f j := by
  intro d
  induction d with
  | zero => intro f j; rw [if_neg (by omega)]; rfl
  | succ d ih =>
    intro f j
    show wv_sh (upd f (k + d + 1) (f (k + d))) k d j = _
    rw [ih]
    by_cases h1 : k < j ∧ j ≤ k + d
    · rw [if_pos h1, if_pos (by omega), pk_un (by omega)]
    · rw [if_neg h1]
      by_cases h2 : j = k + d + 1
      · subst h2
        rw [if_pos (by omega), pk_us]
        rfl
      · rw [if_neg (by omega), pk_un h2]
theorem wv_sh_An {f : Nat → Int32} {l m : List Nat} (h : wv_An f 0 (l ++ m)) (x : Nat) : wv_An (upd (wv_sh f l.length m.length) l.length (nI x)) 0 (l ++ x :: m) := by
  obtain ⟨h1, h2⟩ := wv_An_app.mp h
  refine wv_An_app.mpr ⟨wv_An_congr h1 (fun j _ hj => ?_), wv_An_cons.mpr ⟨?_, wv_An_of (fun j y hy => ?_)⟩⟩
  · rw [pk_un (by omega), wv_sh_at, if_neg (by omega)]
  · rw [Nat.zero_add]; exact pk_us
  · have hl := wv_lt hy
    rw [pk_un (by omega), wv_sh_at, if_pos (by omega)]
    exact (congrArg f (by omega)).trans (wv_An_get h2 hy)
/-- the filling loop -/
def wv_fill (f : Nat → Int32) : Nat → List Int32 → Nat → Int32
  | _, [] => f
  | i, v :: l => wv_fill (upd f i v) (i + 1) l
/-- the deleting loop -/
def wv_del (f : Nat → Int32) : Nat → Nat → Nat → Int32
  | _, 0 => f
  | i, d + 1 => wv_del (upd f i (f (i + 1))) (i + 1) d
theorem wv_filt_len (p : Nat → Bool) (l : List Nat) : (l.filter p).length = l.countP p := List.countP_eq_length_filter.symm
theorem wv_get_or {α : Type} (l : List α) {j : Nat} (h : j < l.length) : ∃ x, l[j]? = some x := ⟨l[j], List.getElem?_eq_getElem h⟩
theorem wv_drop_cons {α : Type} {l : List α} {j : Nat} {x : α} (h : l[j]? = some x) : l.drop j = x :: l.drop (j + 1) := by
  obtain ⟨hl, e⟩ := List.getElem?_eq_some_iff.mp h
  rw [List.drop_eq_getElem_cons hl, e]
end
section
/-! regions: X's one pass against Y's counting, over the roll as a list -/
def wv_chg (cm P : Nat → Bool) (g : Nat) : Nat → List Nat → Bool
  | _, [] => false
  | c, x :: l => if cm x = true then wv_chg cm P g (c + 1) l else ((decide (c = g) && P x) || wv_chg cm P g c l)
def wv_sta (cm T : Nat → Bool) (g : Nat) : Nat → List Nat → Nat
  | _, [] => 0
  | c, x :: l => (T x && decide (c < g)).toNat + wv_sta cm T g (if cm x = true then c + 1 else c) l
def wv_len (cm T : Nat → Bool) (g : Nat) : Nat → List Nat → Nat
  | _, [] => 0
  | c, x :: l => (T x && decide (c = g) && !cm x).toNat + wv_len cm T g (if cm x = true then c + 1 else c) l
def wv_rec (sA pA sB pB sJ pJ : Nat) : List Nat := [sA, pA - sA, sB, pB - sB, sJ, pJ - sJ]
def wv_cf (cm PA PB TA TB TJ : Nat → Bool) : List Nat → Nat → Nat → Nat → Nat → Nat → Nat → Bool → Bool → List (List Nat)
  | [], pA, pB, pJ, sA, sB, sJ, dA, dB => if (dA && dB) = true then [wv_rec sA pA sB pB sJ pJ] else []
  | x :: l, pA, pB, pJ, sA, sB, sJ, dA, dB =>
    if cm x = true then (if (dA && dB) = true then [wv_rec sA pA sB pB sJ pJ] else []) ++ wv_cf cm PA PB TA TB TJ l (pA + 1) (pB + 1) (pJ + 1) (pA + 1) (pB + 1) (pJ + 1) false false
    else wv_cf cm PA PB TA TB TJ l (pA + (TA x).toNat) (pB + (TB x).toNat) (pJ + (TJ x).toNat) sA sB sJ (dA || PA x) (dB || PB x)
section
variable {cm P PA PB T TA TB TJ : Nat → Bool}
theorem wv_chg_t {g c x : Nat} {l : List Nat} (e : cm x = true) : wv_chg cm P g c (x :: l) = wv_chg cm P g (c + 1) l := by
  rw [wv_chg, if_pos e]
theorem wv_chg_f {g c x : Nat} {l : List Nat} (e : cm x = false) : wv_chg cm P g c (x :: l) = ((decide (c = g) && P x) || wv_chg cm P g c l) := by
  rw [wv_chg, if_neg (by rw [e]; decide)]
theorem wv_sta_t {g c x : Nat} {l : List Nat} (e : cm x = true) : wv_sta cm T g c (x :: l) = (T x && decide (c < g)).toNat + wv_sta cm T g (c + 1) l := by
  rw [wv_sta, if_pos e]
theorem wv_sta_f {g c x : Nat} {l : List Nat} (e : cm x = false) : wv_sta cm T g c (x :: l) = (T x && decide (c < g)).toNat + wv_sta cm T g c l := by
  rw [wv_sta, if_neg (by rw [e]; decide)]
theorem wv_len_t {g c x : Nat} {l : List Nat} (e : cm x = true) : wv_len cm T g c (x :: l) = wv_len cm T g (c + 1) l := by
  rw [wv_len, if_pos e, e, Bool.not_true, Bool.and_false, Bool.toNat_false, Nat.zero_add]
theorem wv_len_f {g c x : Nat} {l : List Nat} (e : cm x = false) : wv_len cm T g c (x :: l) = (T x && decide (c = g)).toNat + wv_len cm T g c l := by
  rw [wv_len, if_neg (by rw [e]; decide), e, Bool.not_false, Bool.and_true]
theorem wv_chg_lt {g : Nat} : ∀ (l : List Nat) (c : Nat), g < c → wv_chg cm P g c l = false := by
  intro l
  induction l with
  | nil => intro c _; rfl
  | cons x l ih =>
    intro c h
    cases e : cm x with
    | true => rw [wv_chg_t e]; exact ih (c + 1) (by omega)
    | false => rw [wv_chg_f e, ih c h, decide_eq_false (by omega)]; rfl
theorem wv_chg_gt {g : Nat} : ∀ (l : List Nat) (c : Nat), c + l.countP cm < g → wv_chg cm P g c l = false := by
  intro l
  induction l with
  | nil => intro c _; rfl
  | cons x l ih =>
    intro c h
    cases e : cm x with
    | true =>
      rw [List.countP_cons_of_pos e] at h
      rw [wv_chg_t e]; exact ih (c + 1) (by omega)
    | false =>
      rw [List.countP_cons_of_neg (by rw [e]; decide)] at h
      rw [wv_chg_f e, ih c h, decide_eq_false (by omega)]; rfl
theorem wv_len_lt {g : Nat} : ∀ (l : List Nat) (c : Nat), g < c → wv_len cm T g c l = 0 := by
  intro l
  induction l with
  | nil => intro c _; rfl
  | cons x l ih =>
    intro c h
    cases e : cm x with
    | true => rw [wv_len_t e]; exact ih (c + 1) (by omega)
    | false => rw [wv_len_f e, ih c h, decide_eq_false (by omega), Bool.and_false]; rfl
theorem wv_sta_le {g : Nat} : ∀ (l : List Nat) (c : Nat), g ≤ c → wv_sta cm T g c l = 0 := by
  intro l
  induction l with
  | nil => intro c _; rfl
  | cons x l ih =>
    intro c h
    cases e : cm x with
    | true => rw [wv_sta_t e, ih (c + 1) (by omega), decide_eq_false (by omega), Bool.and_false]; rfl
    | false => rw [wv_sta_f e, ih c h, decide_eq_false (by omega), Bool.and_false]; rfl
/-- is region g a conflict, seen from counter c with what the open region has already -/
def wv_ic (cm PA PB : Nat → Bool) (c : Nat) (l : List Nat) (dA dB : Bool) (g : Nat) : Bool :=
  ((decide (g = c) && dA) || wv_chg cm PA g c l) && ((decide (g = c) && dB) || wv_chg cm PB g c l)
def wv_tp (cm TA TB TJ : Nat → Bool) (c : Nat) (l : List Nat) (pA pB pJ sA sB sJ g : Nat) : List Nat :=
  if g = c then [sA, pA - sA + wv_len cm TA g c l, sB, pB - sB + wv_len cm TB g c l, sJ, pJ - sJ + wv_len cm TJ g c l]
  else [pA + wv_sta cm TA g c l, wv_len cm TA g c l, pB + wv_sta cm TB g c l, wv_len cm TB g c l, pJ + wv_sta cm TJ g c l, wv_len cm TJ g c l]
theorem wv_ic_t {g c x : Nat} {l : List Nat} {dA dB : Bool} (e : cm x = true) (hg : c + 1 ≤ g) : wv_ic cm PA PB c (x :: l) dA dB g = wv_ic cm PA PB (c + 1) l false false g := by
  unfold wv_ic
  rw [wv_chg_t e, wv_chg_t e, decide_eq_false (by omega : ¬ g = c), Bool.and_false, Bool.false_and, Bool.false_and]
theorem wv_ic_f {g c x : Nat} {l : List Nat} {dA dB : Bool} (e : cm x = false) : wv_ic cm PA PB c (x :: l) dA dB g = wv_ic cm PA PB c l (dA || PA x) (dB || PB x) g := by
  unfold wv_ic
  rw [wv_chg_f e, wv_chg_f e]
  by_cases h : g = c
  · subst h
    rw [decide_eq_true rfl, Bool.true_and, Bool.true_and, Bool.true_and, Bool.true_and, Bool.true_and, Bool.true_and, Bool.or_assoc, Bool.or_assoc]
  · rw [decide_eq_false h, decide_eq_false (fun z => h z.symm : ¬ c = g)]
    simp only [Bool.false_and, Bool.false_or]
theorem wv_tp_t {g c x : Nat} {l : List Nat} {pA pB pJ sA sB sJ : Nat} (e : cm x = true) (eA : TA x = true) (eB : TB x = true) (eJ : TJ x = true) (hg : c + 1 ≤ g) :
    wv_tp cm TA TB TJ c (x :: l) pA pB pJ sA sB sJ g = wv_tp cm TA TB TJ (c + 1) l (pA + 1) (pB + 1) (pJ + 1) (pA + 1) (pB + 1) (pJ + 1) g := by
  unfold wv_tp
  rw [if_neg (by omega : ¬ g = c), wv_sta_t e, wv_sta_t e, wv_sta_t e, wv_len_t e, wv_len_t e, wv_len_t e, eA, eB, eJ, decide_eq_true (by omega : c < g)]
  by_cases h : g = c + 1
  · subst h
    rw [if_pos rfl, wv_sta_le l (c + 1) (Nat.le_refl _), wv_sta_le l (c + 1) (Nat.le_refl _), wv_sta_le l (c + 1) (Nat.le_refl _), Nat.sub_self, Nat.sub_self, Nat.sub_self, Nat.zero_add, Nat.zero_add, Nat.zero_add]
    rfl
  · rw [if_neg h, Bool.and_self, Bool.toNat_true, ← Nat.add_assoc, ← Nat.add_assoc, ← Nat.add_assoc]
theorem wv_tp_f {g c x : Nat} {l : List Nat} {pA pB pJ sA sB sJ : Nat} (e : cm x = false) (hA : sA ≤ pA) (hB : sB ≤ pB) (hJ : sJ ≤ pJ) (hg : c ≤ g) :
    wv_tp cm TA TB TJ c (x :: l) pA pB pJ sA sB sJ g = wv_tp cm TA TB TJ c l (pA + (TA x).toNat) (pB + (TB x).toNat) (pJ + (TJ x).toNat) sA sB sJ g := by
  unfold wv_tp
  rw [wv_sta_f e, wv_sta_f e, wv_sta_f e, wv_len_f e, wv_len_f e, wv_len_f e]
  by_cases h : g = c
  · subst h
    rw [if_pos rfl, if_pos rfl, decide_eq_true rfl, Bool.and_true, Bool.and_true, Bool.and_true, Nat.sub_add_comm hA, Nat.sub_add_comm hB, Nat.sub_add_comm hJ, Nat.add_assoc, Nat.add_assoc, Nat.add_assoc]
  · rw [if_neg h, if_neg h, decide_eq_true (by omega : c < g), decide_eq_false (by omega : ¬ c = g), Bool.and_true, Bool.and_true, Bool.and_true, Bool.and_false, Bool.and_false, Bool.and_false, Bool.toNat_false, Nat.zero_add, Nat.zero_add, Nat.zero_add, Nat.add_assoc, Nat.add_assoc, Nat.add_assoc]
theorem wv_cf_eq (hA : ∀ x, cm x = true → TA x = true) (hB : ∀ x, cm x = true → TB x = true) (hJ : ∀ x, cm x = true → TJ x = true) :
    ∀ (l : List Nat) (c pA pB pJ sA sB sJ : Nat) (dA dB : Bool), sA ≤ pA → sB ≤ pB → sJ ≤ pJ →
    wv_cf cm PA PB TA TB TJ l pA pB pJ sA sB sJ dA dB = ((List.range' c (l.countP cm + 1)).filter (wv_ic cm PA PB c l dA dB)).map (wv_tp cm TA TB TJ c l pA pB pJ sA sB sJ) := by
  intro l
  induction l with
  | nil =>
    intro c pA pB pJ sA sB sJ dA dB h1 h2 h3
    show _ = (([c] : List Nat).filter (wv_ic cm PA PB c [] dA dB)).map _
    cases dA <;> cases dB <;> simp [wv_cf, wv_ic, wv_tp, wv_chg, wv_len, wv_rec]
  | cons x l ih =>
    intro c pA pB pJ sA sB sJ dA dB h1 h2 h3
    cases e : cm x with
    | true =>
      rw [wv_cf, if_pos e, ih (c + 1) (pA + 1) (pB + 1) (pJ + 1) (pA + 1) (pB + 1) (pJ + 1) false false (Nat.le_refl _) (Nat.le_refl _) (Nat.le_refl _), List.countP_cons_of_pos e, show List.range' c (l.countP cm + 1 + 1) = c :: List.range' (c + 1) (l.countP cm + 1) from rfl, List.filter_cons]
      have hf : (List.range' (c + 1) (l.countP cm + 1)).filter (wv_ic cm PA PB c (x :: l) dA dB) = (List.range' (c + 1) (l.countP cm + 1)).filter (wv_ic cm PA PB (c + 1) l false false) :=
        List.filter_congr (fun g hg => wv_ic_t e (List.mem_range'_1.mp hg).1)
      have hm : ((List.range' (c + 1) (l.countP cm + 1)).filter (wv_ic cm PA PB (c + 1) l false false)).map (wv_tp cm TA TB TJ c (x :: l) pA pB pJ sA sB sJ)
          = ((List.range' (c + 1) (l.countP cm + 1)).filter (wv_ic cm PA PB (c + 1) l false false)).map (wv_tp cm TA TB TJ (c + 1) l (pA + 1) (pB + 1) (pJ + 1) (pA + 1) (pB + 1) (pJ + 1)) :=
        List.map_congr_left (fun g hg => wv_tp_t e (hA x e) (hB x e) (hJ x e) (List.mem_range'_1.mp (List.mem_filter.mp hg).1).1)
      have hi : wv_ic cm PA PB c (x :: l) dA dB c = (dA && dB) := by
        unfold wv_ic
        rw [wv_chg_t e, wv_chg_t e, wv_chg_lt l (c + 1) (by omega), wv_chg_lt l (c + 1) (by omega), decide_eq_true rfl, Bool.true_and, Bool.true_and, Bool.or_false, Bool.or_false]
      have ht : wv_tp cm TA TB TJ c (x :: l) pA pB pJ sA sB sJ c = wv_rec sA pA sB pB sJ pJ := by
        unfold wv_tp wv_rec
        rw [if_pos rfl, wv_len_t e, wv_len_t e, wv_len_t e, wv_len_lt l (c + 1) (by omega), wv_len_lt l (c + 1) (by omega), wv_len_lt l (c + 1) (by omega), Nat.add_zero, Nat.add_zero, Nat.add_zero]
      rw [hf, hi]
      cases hd : (dA && dB) with
      | true => rw [if_pos rfl, if_pos rfl, List.map_cons, ht, hm]; rfl
      | false => rw [if_neg (by decide), if_neg (by decide), hm]; rfl
    | false =>
      have e' : ¬ cm x = true := by rw [e]; decide
      rw [wv_cf, if_neg e', ih c (pA + (TA x).toNat) (pB + (TB x).toNat) (pJ + (TJ x).toNat) sA sB sJ (dA || PA x) (dB || PB x) (by omega) (by omega) (by omega), List.countP_cons_of_neg e']
      rw [show (List.range' c (l.countP cm + 1)).filter (wv_ic cm PA PB c (x :: l) dA dB) = (List.range' c (l.countP cm + 1)).filter (wv_ic cm PA PB c l (dA || PA x) (dB || PB x)) from
        List.filter_congr (fun g _ => wv_ic_f e)]
      exact (List.map_congr_left (fun g hg => wv_tp_f e h1 h2 h3 (List.mem_range'_1.mp (List.mem_filter.mp hg).1).1)).symm
/-- the conflicts by number, and what is told of one -/
def wv_isc (cm PA PB : Nat → Bool) (l : List Nat) (g : Nat) : Bool := wv_chg cm PA g 0 l && wv_chg cm PB g 0 l
def wv_six (cm TA TB TJ : Nat → Bool) (l : List Nat) (g : Nat) : List Nat :=
  [wv_sta cm TA g 0 l, wv_len cm TA g 0 l, wv_sta cm TB g 0 l, wv_len cm TB g 0 l, wv_sta cm TJ g 0 l, wv_len cm TJ g 0 l]
def wv_cl (cm PA PB : Nat → Bool) (l : List Nat) (h : Nat) : List Nat := (List.range' h (11 - h)).filter (wv_isc cm PA PB l)
theorem wv_cf_top (hA : ∀ x, cm x = true → TA x = true) (hB : ∀ x, cm x = true → TB x = true) (hJ : ∀ x, cm x = true → TJ x = true) (l : List Nat) (hn : l.countP cm ≤ 10) :
    wv_cf cm PA PB TA TB TJ l 0 0 0 0 0 0 false false = (wv_cl cm PA PB l 0).map (wv_six cm TA TB TJ l) := by
  rw [wv_cf_eq hA hB hJ l 0 0 0 0 0 0 0 false false (Nat.le_refl _) (Nat.le_refl _) (Nat.le_refl _)]
  have h1 : wv_cl cm PA PB l 0 = (List.range' 0 (l.countP cm + 1)).filter (wv_ic cm PA PB 0 l false false) := by
    unfold wv_cl
    have e : List.range' 0 (11 - 0) = List.range' 0 (l.countP cm + 1) ++ List.range' (0 + (l.countP cm + 1)) (10 - l.countP cm) := by
      rw [List.range'_append_1]
      exact congrArg (List.range' 0) (by omega)
    rw [e, List.filter_append]
    have h2 : (List.range' (0 + (l.countP cm + 1)) (10 - l.countP cm)).filter (wv_isc cm PA PB l) = [] := by
      rw [List.filter_eq_nil_iff]
      intro g hg
      have hg1 := (List.mem_range'_1.mp hg).1
      unfold wv_isc
      rw [wv_chg_gt l 0 (by omega), Bool.false_and]
      decide
    rw [h2, List.append_nil]
    refine List.filter_congr (fun g _ => ?_)
    unfold wv_isc wv_ic
    rw [Bool.and_false, Bool.false_or, Bool.false_or]
  rw [h1]
  refine List.map_congr_left (fun g _ => ?_)
  unfold wv_tp wv_six
  by_cases h : g = 0
  · subst h
    rw [if_pos rfl, wv_sta_le l 0 (Nat.le_refl _), wv_sta_le l 0 (Nat.le_refl _), wv_sta_le l 0 (Nat.le_refl _), Nat.sub_zero, Nat.zero_add, Nat.zero_add, Nat.zero_add]
  · rw [if_neg h, Nat.zero_add, Nat.zero_add, Nat.zero_add]
theorem wv_cl_s {l : List Nat} {h : Nat} (hh : h ≤ 10) : wv_cl cm PA PB l h = if wv_isc cm PA PB l h = true then h :: wv_cl cm PA PB l (h + 1) else wv_cl cm PA PB l (h + 1) := by
  unfold wv_cl
  rw [show 11 - h = (11 - (h + 1)) + 1 by omega, List.range'_succ, List.filter_cons]
theorem wv_cl_e {l : List Nat} {h : Nat} (hh : 10 < h) : wv_cl cm PA PB l h = [] := by
  unfold wv_cl
  rw [show 11 - h = 0 by omega]
  rfl
theorem wv_cl_len (l : List Nat) : (wv_cl cm PA PB l 0).length ≤ 11 := by
  unfold wv_cl
  refine Nat.le_trans (List.length_filter_le _ _) ?_
  rw [List.length_range']
  exact Nat.le_refl _
end
theorem wv_flat : ∀ (M : List (List Nat)), (∀ t, t ∈ M → t.length = 6) → ∀ (k : Nat) (t : List Nat) (w z : Nat), M[k]? = some t → t[w]? = some z → M.flatten[k * 6 + w]? = some z := by
  intro M
  induction M with
  | nil => intro _ k t w z h; cases h
  | cons t0 M ih =>
    intro hM k t w z hk hw
    have h6 := hM t0 (List.mem_cons_self)
    have hwl := wv_lt hw
    rw [List.flatten_cons]
    cases k with
    | zero =>
      have e : t0 = t := Option.some.inj hk
      subst e
      rw [Nat.zero_mul, Nat.zero_add, List.getElem?_append_left hwl]
      exact hw
    | succ k =>
      rw [List.getElem?_append_right (by omega), h6, show (k + 1) * 6 + w - 6 = k * 6 + w by omega]
      exact ih (fun t ht => hM t (List.mem_cons_of_mem _ ht)) k t w z hk hw
theorem wv_count2 {p q r : Nat → Bool} (h : ∀ x, p x = true → q x = true ∨ r x = true) : ∀ l : List Nat, l.countP p ≤ l.countP q + l.countP r := by
  intro l
  induction l with
  | nil => exact Nat.le_refl _
  | cons x l ih =>
    have e := h x
    rw [List.countP_cons, List.countP_cons, List.countP_cons]
    by_cases hp : p x = true
    · rcases e hp with hq | hr
      · rw [if_pos hp, if_pos hq]; omega
      · rw [if_pos hp, if_pos hr]; omega
    · rw [if_neg hp]; omega
end
section
/-! longest common subsequences: X's table and choice, Y's masks -/
def wv_fd (val : Nat → Int32) (a : Int32) : List Nat → Option (Nat × List Nat)
  | [] => none
  | b :: v => if val b = a then some (b, v) else wv_fd val a v
def wv_fx (val : Nat → Int32) (a : Int32) : List Nat → Nat
  | [] => 0
  | b :: v => if val b = a then 0 else wv_fx val a v + 1
def wv_row (val : Nat → Int32) (a : Int32) (prev : List Nat → Nat) : List Nat → Nat
  | [] => 0
  | b :: v => if a = val b then prev v + 1 else max (prev (b :: v)) (wv_row val a prev v)
def wv_lcs (val : Nat → Int32) : List Int32 → List Nat → Nat
  | [] => fun _ => 0
  | a :: u => wv_row val a (wv_lcs val u)
def wv_ck (val : Nat → Int32) : List Int32 → List Nat → List (Option Nat)
  | [], _ => []
  | a :: u, v => match wv_fd val a v with
    | none => none :: wv_ck val u v
    | some q => if wv_lcs val u q.2 + 1 = wv_lcs val (a :: u) v then some q.1 :: wv_ck val u q.2 else none :: wv_ck val u v
def wv_tk (val : Nat → Int32) (m : Nat) : List Int32 → List Nat → Option (List (Option Nat))
  | [], _ => some []
  | a :: u, v => if m / 2 ^ u.length % 2 = 1 then
      (match wv_fd val a v with
      | none => none
      | some q => (wv_tk val m u q.2).map (fun t => some q.1 :: t))
    else (wv_tk val m u v).map (fun t => none :: t)
def wv_sz : List (Option Nat) → Nat
  | [] => 0
  | o :: l => o.isSome.toNat + wv_sz l
def wv_mk : List (Option Nat) → Nat
  | [] => 0
  | o :: l => o.isSome.toNat * 2 ^ l.length + wv_mk l
def wv_sm : List (Option Nat) → List Nat
  | [] => []
  | none :: l => wv_sm l
  | some b :: l => b :: wv_sm l
def wv_oi : Option Nat → Int32
  | none => -1
  | some b => nI b
def wv_tr : Option (List (Option Nat)) → Int32
  | none => -1
  | some t => nI (wv_sz t)
section
variable {val : Nat → Int32}
theorem wv_lcs_nil (u : List Int32) : wv_lcs val u [] = 0 := by cases u <;> rfl
theorem wv_lcs_cc (a : Int32) (u : List Int32) (b : Nat) (v : List Nat) :
    wv_lcs val (a :: u) (b :: v) = if a = val b then wv_lcs val u v + 1 else max (wv_lcs val u (b :: v)) (wv_lcs val (a :: u) v) := rfl
def wv_lq (val : Nat → Int32) (u : List Int32) : Prop := ∀ (b : Nat) (v : List Nat), wv_lcs val u v ≤ wv_lcs val u (b :: v) ∧ wv_lcs val u (b :: v) ≤ wv_lcs val u v + 1
theorem wv_lcs_3 {u : List Int32} (q : wv_lq val u) (a : Int32) (v : List Nat) : wv_lcs val u v ≤ wv_lcs val (a :: u) v := by
  cases v with
  | nil => rw [wv_lcs_nil, wv_lcs_nil]; exact Nat.le_refl _
  | cons c v =>
    have h := q c v
    rw [wv_lcs_cc]
    by_cases e : a = val c
    · rw [if_pos e]; exact h.2
    · rw [if_neg e]; exact Nat.le_max_left _ _
theorem wv_lcs_4 {u : List Int32} (q : wv_lq val u) (a : Int32) (v : List Nat) : wv_lcs val (a :: u) v ≤ wv_lcs val u v + 1 := by
  induction v with
  | nil => rw [wv_lcs_nil]; exact Nat.zero_le _
  | cons c v ih =>
    have h := q c v
    rw [wv_lcs_cc]
    by_cases e : a = val c
    · rw [if_pos e]; omega
    · rw [if_neg e]
      exact Nat.max_le.mpr ⟨by omega, by omega⟩
theorem wv_lcs_q (u : List Int32) : wv_lq val u := by
  induction u with
  | nil => exact fun b v => ⟨Nat.le_refl _, Nat.zero_le _⟩
  | cons a u ih =>
    intro b v
    have h3 := wv_lcs_3 ih a v
    have h4 := wv_lcs_4 ih a v
    have hq := ih b v
    rw [wv_lcs_cc]
    by_cases e : a = val b
    · rw [if_pos e]; omega
    · rw [if_neg e]
      exact ⟨Nat.le_max_right _ _, Nat.max_le.mpr ⟨by omega, by omega⟩⟩
theorem wv_lcs_up (a : Int32) (u : List Int32) (v : List Nat) : wv_lcs val u v ≤ wv_lcs val (a :: u) v := wv_lcs_3 (wv_lcs_q u) a v
theorem wv_fd_t {a : Int32} {b : Nat} {v : List Nat} (h : val b = a) : wv_fd val a (b :: v) = some (b, v) := by rw [wv_fd, if_pos h]
theorem wv_fd_f {a : Int32} {b : Nat} {v : List Nat} (h : ¬ val b = a) : wv_fd val a (b :: v) = wv_fd val a v := by rw [wv_fd, if_neg h]
theorem wv_K0 {a : Int32} {u : List Int32} : ∀ v : List Nat, wv_fd val a v = none → wv_lcs val (a :: u) v = wv_lcs val u v := by
  intro v
  induction v with
  | nil => intro _; rw [wv_lcs_nil, wv_lcs_nil]
  | cons b v ih =>
    intro h
    by_cases e : val b = a
    · rw [wv_fd_t e] at h; cases h
    · rw [wv_fd_f e] at h
      have hq := wv_lcs_q (val := val) u b v
      rw [wv_lcs_cc, if_neg (fun z => e z.symm), ih h]
      exact Nat.max_eq_left hq.1
theorem wv_K1 {a : Int32} {u : List Int32} {b : Nat} {w : List Nat} : ∀ v : List Nat, wv_fd val a v = some (b, w) → wv_lcs val (a :: u) v = max (wv_lcs val u v) (wv_lcs val u w + 1) := by
  intro v
  induction v with
  | nil => intro h; cases h
  | cons c v ih =>
    intro h
    have hq := wv_lcs_q (val := val) u c v
    rw [wv_lcs_cc]
    by_cases e : val c = a
    · rw [wv_fd_t e] at h
      cases h
      rw [if_pos e.symm]
      exact (Nat.max_eq_right hq.2).symm
    · rw [wv_fd_f e] at h
      rw [if_neg (fun z => e z.symm), ih h, ← Nat.max_assoc, Nat.max_eq_left hq.1]
theorem wv_ck_n {a : Int32} {u : List Int32} {v : List Nat} (h : wv_fd val a v = none) : wv_ck val (a :: u) v = none :: wv_ck val u v := by
  simp only [wv_ck, h]
theorem wv_ck_t {a : Int32} {u : List Int32} {v w : List Nat} {b : Nat} (h : wv_fd val a v = some (b, w)) (e : wv_lcs val u w + 1 = wv_lcs val (a :: u) v) : wv_ck val (a :: u) v = some b :: wv_ck val u w := by
  simp only [wv_ck, h, if_pos e]
theorem wv_ck_f {a : Int32} {u : List Int32} {v w : List Nat} {b : Nat} (h : wv_fd val a v = some (b, w)) (e : ¬ wv_lcs val u w + 1 = wv_lcs val (a :: u) v) : wv_ck val (a :: u) v = none :: wv_ck val u v := by
  simp only [wv_ck, h, if_neg e]
/-- the three ways a choice goes -/
theorem wv_ck_cases (a : Int32) (u : List Int32) (v : List Nat) :
    (wv_fd val a v = none ∧ wv_ck val (a :: u) v = none :: wv_ck val u v ∧ wv_lcs val (a :: u) v = wv_lcs val u v) ∨
    (∃ b w, wv_fd val a v = some (b, w) ∧ wv_lcs val u w + 1 = wv_lcs val (a :: u) v ∧ wv_ck val (a :: u) v = some b :: wv_ck val u w) ∨
    (∃ b w, wv_fd val a v = some (b, w) ∧ ¬ wv_lcs val u w + 1 = wv_lcs val (a :: u) v ∧ wv_lcs val u w + 1 ≤ wv_lcs val (a :: u) v ∧ wv_ck val (a :: u) v = none :: wv_ck val u v ∧ wv_lcs val (a :: u) v = wv_lcs val u v) := by
  cases h : wv_fd val a v with
  | none => exact Or.inl ⟨rfl, wv_ck_n h, wv_K0 v h⟩
  | some q =>
    obtain ⟨b, w⟩ := q
    have k := wv_K1 (u := u) v h
    by_cases e : wv_lcs val u w + 1 = wv_lcs val (a :: u) v
    · exact Or.inr (Or.inl ⟨b, w, rfl, e, wv_ck_t h e⟩)
    · refine Or.inr (Or.inr ⟨b, w, rfl, e, ?_, wv_ck_f h e, ?_⟩)
      · rw [k]; exact Nat.le_max_right _ _
      · rw [k] at e ⊢
        rcases Nat.le_total (wv_lcs val u w + 1) (wv_lcs val u v) with z | z
        · exact Nat.max_eq_left z
        · rw [Nat.max_eq_right z] at e; exact absurd rfl e
theorem wv_ck_len (u : List Int32) : ∀ v : List Nat, (wv_ck val u v).length = u.length := by
  induction u with
  | nil => intro v; rfl
  | cons a u ih =>
    intro v
    rcases wv_ck_cases a u v with ⟨_, e, _⟩ | ⟨b, w, _, _, e⟩ | ⟨b, w, _, _, _, e, _⟩ <;> rw [e, List.length_cons, List.length_cons, ih]
theorem wv_ck_sz (u : List Int32) : ∀ v : List Nat, wv_sz (wv_ck val u v) = wv_lcs val u v := by
  induction u with
  | nil => intro v; rfl
  | cons a u ih =>
    intro v
    rcases wv_ck_cases a u v with ⟨_, e, k⟩ | ⟨b, w, _, k, e⟩ | ⟨b, w, _, _, _, e, k⟩
    · rw [e, k, ← ih v, wv_sz]; exact Nat.zero_add _
    · rw [e, ← k, ← ih w, wv_sz]; exact Nat.add_comm _ _
    · rw [e, k, ← ih v, wv_sz]; exact Nat.zero_add _
theorem wv_mk_lt (l : List (Option Nat)) : wv_mk l < 2 ^ l.length := by
  induction l with
  | nil => exact Nat.zero_lt_one
  | cons o l ih =>
    rw [wv_mk, List.length_cons, Nat.pow_succ]
    cases o
    · rw [show (none : Option Nat).isSome.toNat = 0 from rfl, Nat.zero_mul]; omega
    · rw [show (some _ : Option Nat).isSome.toNat = 1 from rfl, Nat.one_mul]; omega
theorem wv_mk_0 (l : List (Option Nat)) : wv_mk l = 0 ↔ wv_sz l = 0 := by
  induction l with
  | nil => exact Iff.rfl
  | cons o l ih =>
    rw [wv_mk, wv_sz]
    have hp : 0 < 2 ^ l.length := Nat.two_pow_pos _
    cases o
    · rw [show (none : Option Nat).isSome.toNat = 0 from rfl, Nat.zero_mul, Nat.zero_add, Nat.zero_add]; exact ih
    · rw [show (some _ : Option Nat).isSome.toNat = 1 from rfl, Nat.one_mul]; omega
theorem wv_dm {m k s r : Nat} (hs : s < 2) (hr : r < 2 ^ k) (h : m % 2 ^ (k + 1) = s * 2 ^ k + r) : m / 2 ^ k % 2 = s ∧ m % 2 ^ k = r := by
  rw [Nat.mod_pow_succ] at h
  have hw : m % 2 ^ k < 2 ^ k := Nat.mod_lt _ (Nat.two_pow_pos k)
  have hq : m / 2 ^ k % 2 < 2 := Nat.mod_lt _ (by decide)
  generalize m / 2 ^ k % 2 = q at *
  generalize m % 2 ^ k = w at *
  generalize 2 ^ k = p at *
  rcases (by omega : s = 0 ∨ s = 1) with rfl | rfl <;> rcases (by omega : q = 0 ∨ q = 1) with rfl | rfl <;> omega
theorem wv_tk_w0 {m : Nat} {a : Int32} {u : List Int32} {v : List Nat} (hb : m / 2 ^ u.length % 2 = 1) (h : wv_fd val a v = none) : wv_tk val m (a :: u) v = none := by
  simp only [wv_tk, if_pos hb, h]
theorem wv_tk_w1 {m b : Nat} {a : Int32} {u : List Int32} {v w : List Nat} (hb : m / 2 ^ u.length % 2 = 1) (h : wv_fd val a v = some (b, w)) : wv_tk val m (a :: u) v = (wv_tk val m u w).map (fun t => some b :: t) := by
  simp only [wv_tk, if_pos hb, h]
theorem wv_tk_nw {m : Nat} {a : Int32} {u : List Int32} {v : List Nat} (hb : ¬ m / 2 ^ u.length % 2 = 1) : wv_tk val m (a :: u) v = (wv_tk val m u v).map (fun t => none :: t) := by
  simp only [wv_tk, if_neg hb]
/-- what a mask that can be kept looks like -/
theorem wv_tk_cases {m : Nat} {a : Int32} {u : List Int32} {v : List Nat} {t : List (Option Nat)} (h : wv_tk val m (a :: u) v = some t) :
    (m / 2 ^ u.length % 2 = 1 ∧ ∃ b w t', wv_fd val a v = some (b, w) ∧ wv_tk val m u w = some t' ∧ t = some b :: t') ∨
    (m / 2 ^ u.length % 2 = 0 ∧ ∃ t', wv_tk val m u v = some t' ∧ t = none :: t') := by
  by_cases hb : m / 2 ^ u.length % 2 = 1
  · cases hf : wv_fd val a v with
    | none => rw [wv_tk_w0 hb hf] at h; cases h
    | some q =>
      obtain ⟨b, w⟩ := q
      rw [wv_tk_w1 hb hf] at h
      obtain ⟨t', h1, h2⟩ := Option.map_eq_some_iff.mp h
      exact Or.inl ⟨hb, b, w, t', rfl, h1, h2.symm⟩
  · rw [wv_tk_nw hb] at h
    obtain ⟨t', h1, h2⟩ := Option.map_eq_some_iff.mp h
    exact Or.inr ⟨by omega, t', h1, h2.symm⟩
theorem wv_tk_le {m : Nat} (u : List Int32) : ∀ (v : List Nat) (t : List (Option Nat)), wv_tk val m u v = some t → wv_sz t ≤ wv_lcs val u v := by
  induction u with
  | nil => intro v t h; cases h; exact Nat.le_refl _
  | cons a u ih =>
    intro v t h
    rcases wv_tk_cases h with ⟨_, b, w, t', hf, h1, rfl⟩ | ⟨_, t', h1, rfl⟩
    · have := ih w t' h1
      rw [wv_K1 v hf, wv_sz]
      exact Nat.le_trans (by show 1 + wv_sz t' ≤ wv_lcs val u w + 1; omega) (Nat.le_max_right _ _)
    · have := ih v t' h1
      have h3 := wv_lcs_up (val := val) a u v
      rw [wv_sz]
      show 0 + wv_sz t' ≤ _
      omega
theorem wv_tk_ck {m : Nat} (u : List Int32) : ∀ v : List Nat, m % 2 ^ u.length = wv_mk (wv_ck val u v) → wv_tk val m u v = some (wv_ck val u v) := by
  induction u with
  | nil => intro v _; rfl
  | cons a u ih =>
    intro v h
    rcases wv_ck_cases a u v with ⟨hf, e, _⟩ | ⟨b, w, hf, _, e⟩ | ⟨b, w, hf, _, _, e, _⟩
    · have hl := wv_mk_lt (wv_ck val u v)
      rw [e, wv_mk, wv_ck_len, List.length_cons] at h
      rw [wv_ck_len] at hl
      obtain ⟨h1, h2⟩ := wv_dm (by decide) hl h
      have h1' : m / 2 ^ u.length % 2 = 0 := h1
      rw [wv_tk_nw (by omega), ih v h2, e]; rfl
    · have hl := wv_mk_lt (wv_ck val u w)
      rw [e, wv_mk, wv_ck_len, List.length_cons] at h
      rw [wv_ck_len] at hl
      obtain ⟨h1, h2⟩ := wv_dm (by show 1 < 2; decide) hl h
      rw [wv_tk_w1 h1 hf, ih w h2, e]; rfl
    · have hl := wv_mk_lt (wv_ck val u v)
      rw [e, wv_mk, wv_ck_len, List.length_cons] at h
      rw [wv_ck_len] at hl
      obtain ⟨h1, h2⟩ := wv_dm (by decide) hl h
      have h1' : m / 2 ^ u.length % 2 = 0 := h1
      rw [wv_tk_nw (by omega), ih v h2, e]; rfl
theorem wv_tk_gr {m : Nat} (u : List Int32) : ∀ (v : List Nat) (t : List (Option Nat)), wv_tk val m u v = some t → wv_sz t = wv_lcs val u v → m % 2 ^ u.length ≤ wv_mk (wv_ck val u v) := by
  induction u with
  | nil => intro v t _ _; rw [List.length_nil, Nat.pow_zero, Nat.mod_one]; exact Nat.zero_le _
  | cons a u ih =>
    intro v t h hs
    have hw : m % 2 ^ u.length < 2 ^ u.length := Nat.mod_lt _ (Nat.two_pow_pos _)
    rw [List.length_cons, Nat.mod_pow_succ]
    rcases wv_tk_cases h with ⟨hb, b, w, t', hf, h1, rfl⟩ | ⟨hb, t', h1, rfl⟩
    · have hle := wv_tk_le u w t' h1
      have k := wv_K1 (u := u) v hf
      have k1 : wv_lcs val u w + 1 ≤ wv_lcs val (a :: u) v := by rw [k]; exact Nat.le_max_right _ _
      have hs' : 1 + wv_sz t' = wv_lcs val (a :: u) v := hs
      have e := wv_ck_t hf (u := u) (by omega)
      have := ih w t' h1 (by omega)
      rw [hb, e, wv_mk, wv_ck_len, show (some b : Option Nat).isSome.toNat = 1 from rfl, Nat.one_mul, Nat.mul_one]
      omega
    · have hle := wv_tk_le u v t' h1
      have h3 := wv_lcs_up (val := val) a u v
      have hs' : 0 + wv_sz t' = wv_lcs val (a :: u) v := hs
      have := ih v t' h1 (by omega)
      rw [hb, Nat.mul_zero, Nat.add_zero]
      rcases wv_ck_cases a u v with ⟨_, e, _⟩ | ⟨b, w, _, _, e⟩ | ⟨b, w, _, _, _, e, _⟩
      · rw [e, wv_mk, show (none : Option Nat).isSome.toNat = 0 from rfl, Nat.zero_mul, Nat.zero_add]; exact this
      · rw [e, wv_mk, wv_ck_len, show (some b : Option Nat).isSome.toNat = 1 from rfl, Nat.one_mul]; omega
      · rw [e, wv_mk, show (none : Option Nat).isSome.toNat = 0 from rfl, Nat.zero_mul, Nat.zero_add]; exact this
theorem wv_fx_n {a : Int32} : ∀ v : List Nat, wv_fd val a v = none → wv_fx val a v = v.length := by
  intro v
  induction v with
  | nil => intro _; rfl
  | cons b v ih =>
    intro h
    by_cases e : val b = a
    · rw [wv_fd_t e] at h; cases h
    · rw [wv_fd_f e] at h
      rw [wv_fx, if_neg e, ih h, List.length_cons]
theorem wv_fx_s {a : Int32} {b : Nat} {w : List Nat} : ∀ v : List Nat, wv_fd val a v = some (b, w) → v[wv_fx val a v]? = some b ∧ w = v.drop (wv_fx val a v + 1) := by
  intro v
  induction v with
  | nil => intro h; cases h
  | cons c v ih =>
    intro h
    by_cases e : val c = a
    · rw [wv_fd_t e] at h
      cases h
      rw [wv_fx, if_pos e]
      exact ⟨rfl, rfl⟩
    · rw [wv_fd_f e] at h
      rw [wv_fx, if_neg e]
      exact ih h
theorem wv_fd_split {a : Int32} {b : Nat} {w : List Nat} : ∀ v : List Nat, wv_fd val a v = some (b, w) → List.Sublist (b :: w) v := by
  intro v
  induction v with
  | nil => intro h; cases h
  | cons c v ih =>
    intro h
    by_cases e : val c = a
    · rw [wv_fd_t e] at h
      cases h
      exact List.Sublist.refl _
    · rw [wv_fd_f e] at h
      exact List.Sublist.cons _ (ih h)
theorem wv_ck_sub (u : List Int32) : ∀ v : List Nat, List.Sublist (wv_sm (wv_ck val u v)) v := by
  induction u with
  | nil => intro v; exact List.nil_sublist v
  | cons a u ih =>
    intro v
    rcases wv_ck_cases a u v with ⟨_, e, _⟩ | ⟨b, w, hf, _, e⟩ | ⟨b, w, _, _, _, e, _⟩
    · rw [e]; exact ih v
    · rw [e]; exact List.Sublist.trans (List.Sublist.cons_cons b (ih w)) (wv_fd_split v hf)
    · rw [e]; exact ih v
/-- the search from the greatest mask down: best is the mask of X's choice once it is passed -/
def wv_best (val : Nat → Int32) (u : List Int32) (v : List Nat) (mask best most : Nat) : Prop :=
  (mask < wv_mk (wv_ck val u v) ∧ best = wv_mk (wv_ck val u v) ∧ most = wv_lcs val u v) ∨
  (wv_mk (wv_ck val u v) ≤ mask ∧ most < wv_lcs val u v) ∨
  (wv_lcs val u v = 0 ∧ best = 0 ∧ most = 0)
theorem wv_best_0 (u : List Int32) (v : List Nat) (m : Nat) (hm : m + 1 = 2 ^ u.length) : wv_best val u v m 0 0 := by
  have hl := wv_mk_lt (wv_ck val u v)
  rw [wv_ck_len] at hl
  rcases Nat.eq_zero_or_pos (wv_lcs val u v) with h | h
  · exact Or.inr (Or.inr ⟨h, rfl, rfl⟩)
  · exact Or.inr (Or.inl ⟨by omega, h⟩)
theorem wv_best_e {u : List Int32} {v : List Nat} {best most : Nat} (h : wv_best val u v 0 best most) : best = wv_mk (wv_ck val u v) := by
  rcases h with ⟨_, h, _⟩ | ⟨h1, h2⟩ | ⟨h1, h2, _⟩
  · exact h
  · have := (wv_mk_0 (wv_ck val u v)).mp (by omega)
    rw [wv_ck_sz] at this
    omega
  · have := (wv_mk_0 (wv_ck val u v)).mpr (by rw [wv_ck_sz]; exact h1)
    omega
/-- a mask that can't be kept, or is no greater, changes nothing -/
theorem wv_best_n {u : List Int32} {v : List Nat} {mask best most : Nat} (hm : mask + 1 < 2 ^ u.length) (h : wv_best val u v (mask + 1) best most)
    (ht : ∀ t, wv_tk val (mask + 1) u v = some t → wv_sz t ≤ most) : wv_best val u v mask best most := by
  rcases h with ⟨h1, h2, h3⟩ | ⟨h1, h2⟩ | h
  · exact Or.inl ⟨by omega, h2, h3⟩
  · refine Or.inr (Or.inl ⟨?_, h2⟩)
    rcases Nat.lt_or_ge mask (wv_mk (wv_ck val u v)) with z | z
    · have e : mask + 1 = wv_mk (wv_ck val u v) := by omega
      have := ht _ (wv_tk_ck u v (by rw [Nat.mod_eq_of_lt hm]; exact e))
      rw [wv_ck_sz] at this
      omega
    · exact z
  · exact Or.inr (Or.inr h)
theorem wv_best_y {u : List Int32} {v : List Nat} {mask best most : Nat} {t : List (Option Nat)} (hm : mask + 1 < 2 ^ u.length) (h : wv_best val u v (mask + 1) best most)
    (ht : wv_tk val (mask + 1) u v = some t) (hs : most < wv_sz t) : wv_best val u v mask (mask + 1) (wv_sz t) := by
  have hle := wv_tk_le u v t ht
  rcases h with ⟨h1, h2, h3⟩ | ⟨h1, h2⟩ | ⟨h1, _⟩
  · omega
  · by_cases e : wv_sz t = wv_lcs val u v
    · have := wv_tk_gr u v t ht e
      rw [Nat.mod_eq_of_lt hm] at this
      exact Or.inl ⟨by omega, by omega, e⟩
    · refine Or.inr (Or.inl ⟨?_, by omega⟩)
      rcases Nat.lt_or_ge mask (wv_mk (wv_ck val u v)) with z | z
      · have e2 : mask + 1 = wv_mk (wv_ck val u v) := by omega
        have := wv_tk_ck (val := val) (m := mask + 1) u v (by rw [Nat.mod_eq_of_lt hm]; exact e2)
        rw [ht] at this
        rw [Option.some.inj this, wv_ck_sz] at e
        exact absurd rfl e
      · exact z
  · omega
end
end
section
/-! weaving new lines into the roll -/
def wv_scan (q : Nat) : Nat → List Nat → Nat → Nat
  | _, [], t => t
  | j, y :: l, t => wv_scan q (j + 1) l (if y = q then j + 1 else t)
theorem wv_scan_app (q : Nat) (m : List Nat) : ∀ (l : List Nat) (j t : Nat), wv_scan q j (l ++ m) t = wv_scan q (j + l.length) m (wv_scan q j l t) := by
  intro l
  induction l with
  | nil => intro j t; rfl
  | cons y l ih =>
    intro j t
    show wv_scan q (j + 1) (l ++ m) _ = wv_scan q (j + (l.length + 1)) m (wv_scan q (j + 1) l _)
    rw [ih, show j + 1 + l.length = j + (l.length + 1) by omega]
theorem wv_scan_no {q : Nat} : ∀ (l : List Nat) (j t : Nat), ¬ q ∈ l → wv_scan q j l t = t := by
  intro l
  induction l with
  | nil => intro j t _; rfl
  | cons y l ih =>
    intro j t h
    rw [List.mem_cons, not_or] at h
    show wv_scan q (j + 1) l (if y = q then j + 1 else t) = t
    rw [if_neg (fun e => h.1 e.symm)]
    exact ih (j + 1) t h.2
theorem wv_scan_at {q : Nat} (l m : List Nat) (h : ¬ q ∈ m) : wv_scan q 0 (l ++ q :: m) 0 = l.length + 1 := by
  rw [wv_scan_app]
  show wv_scan q (0 + l.length + 1) m (if q = q then 0 + l.length + 1 else _) = _
  rw [if_pos rfl, wv_scan_no m _ _ h, Nat.zero_add]
def wv_k : Option Nat → List Nat → Nat
  | none, _ => 0
  | some q, L => wv_scan q 0 L 0
/-- ids of the new text, and the roll, values and authors after it -/
def wv_we (wk : Nat → Int32) (c : Int32) : Nat → Option Nat → List (Option Nat) → List Nat → (Nat → Int32) → (Nat → Int32) → (Nat → Int32) → List Nat × List Nat × (Nat → Int32) × (Nat → Int32) × (Nat → Int32)
  | _, _, [], L, ro, va, au => (L, [], ro, va, au)
  | i, _, some y :: cl, L, ro, va, au =>
    ((wv_we wk c (i + 1) (some y) cl L ro va au).1, y :: (wv_we wk c (i + 1) (some y) cl L ro va au).2.1, (wv_we wk c (i + 1) (some y) cl L ro va au).2.2)
  | i, p, none :: cl, L, ro, va, au =>
    ((wv_we wk c (i + 1) (some L.length) cl (L.take (wv_k p L) ++ L.length :: L.drop (wv_k p L)) (upd (wv_sh ro (wv_k p L) (L.length - wv_k p L)) (wv_k p L) (nI L.length)) (upd va L.length (wk i)) (upd au L.length c)).1,
     L.length :: (wv_we wk c (i + 1) (some L.length) cl (L.take (wv_k p L) ++ L.length :: L.drop (wv_k p L)) (upd (wv_sh ro (wv_k p L) (L.length - wv_k p L)) (wv_k p L) (nI L.length)) (upd va L.length (wk i)) (upd au L.length c)).2.1,
     (wv_we wk c (i + 1) (some L.length) cl (L.take (wv_k p L) ++ L.length :: L.drop (wv_k p L)) (upd (wv_sh ro (wv_k p L) (L.length - wv_k p L)) (wv_k p L) (nI L.length)) (upd va L.length (wk i)) (upd au L.length c)).2.2)
/-- a roll: no number twice, all below its length -/
def wv_Ro (L : List Nat) : Prop := L.Nodup ∧ ∀ x, x ∈ L → x < L.length
theorem wv_Ro_ins {l1 l2 : List Nat} (h : wv_Ro (l1 ++ l2)) : wv_Ro (l1 ++ (l1 ++ l2).length :: l2) := by
  obtain ⟨h1, h2⟩ := h
  generalize hn : (l1 ++ l2).length = n at *
  have hl : (l1 ++ n :: l2).length = n + 1 := by
    rw [← hn, List.length_append, List.length_append, List.length_cons]; omega
  refine ⟨?_, ?_⟩
  · rw [List.perm_middle.nodup_iff, List.nodup_cons]
    refine ⟨fun h => ?_, h1⟩
    exact absurd (h2 n h) (Nat.lt_irrefl n)
  · intro x hx
    rw [hl]
    rcases List.mem_cons.mp (List.perm_middle.mem_iff.mp hx) with e | e
    · omega
    · have := h2 x e; omega
def wv_Wo (L l1 : List Nat) (ro au : Nat → Int32) (c : Int32) (n : Nat) (r : List Nat × List Nat × (Nat → Int32) × (Nat → Int32) × (Nat → Int32)) : Prop :=
  wv_Ro r.1 ∧ L.length ≤ r.1.length ∧ r.1.length ≤ L.length + n ∧ (wv_An ro 0 L → wv_An r.2.2.1 0 r.1) ∧
  (∃ m, r.1 = l1 ++ m ∧ List.Sublist r.2.1 m) ∧
  (∀ q : Nat → Bool, (∀ x, L.length ≤ x → q x = false) → r.1.filter q = L.filter q) ∧
  (∀ x, x < r.1.length → r.2.2.2.2 x = if x < L.length then au x else c) ∧ r.2.1.length = n
theorem wv_we_ok (wk : Nat → Int32) (c : Int32) : ∀ (cl : List (Option Nat)) (i : Nat) (p : Option Nat) (l1 l2 : List Nat) (ro va au : Nat → Int32),
    wv_Ro (l1 ++ l2) → wv_k p (l1 ++ l2) = l1.length → List.Sublist (wv_sm cl) l2 →
    wv_Wo (l1 ++ l2) l1 ro au c cl.length (wv_we wk c i p cl (l1 ++ l2) ro va au) := by
  intro cl
  induction cl with
  | nil =>
    intro i p l1 l2 ro va au hR hk hs
    refine ⟨hR, Nat.le_refl _, Nat.le_refl _, fun h => h, ⟨l2, rfl, List.nil_sublist _⟩, fun q _ => rfl, fun x hx => ?_, rfl⟩
    have hx' : x < (l1 ++ l2).length := hx
    rw [if_pos hx']; rfl
  | cons o cl ih =>
    intro i p l1 l2 ro va au hR hk hs
    cases o with
    | some y =>
      have hs' : List.Sublist (y :: wv_sm cl) l2 := hs
      obtain ⟨r1, b, e, hy, hb⟩ := List.cons_sublist_iff.mp hs'
      obtain ⟨a, a2, e2⟩ := List.append_of_mem hy
      have hL : l1 ++ l2 = (l1 ++ a ++ [y]) ++ (a2 ++ b) := by rw [e, e2]; simp only [List.append_assoc, List.cons_append, List.nil_append]
      have hk' : wv_k (some y) ((l1 ++ a ++ [y]) ++ (a2 ++ b)) = (l1 ++ a ++ [y]).length := by
        have hn : ¬ y ∈ a2 ++ b := by
          have := hR.1
          rw [hL, List.append_assoc (l1 ++ a), List.nodup_append] at this
          exact (List.nodup_cons.mp this.2.1).1
        show wv_scan y 0 (l1 ++ a ++ [y] ++ (a2 ++ b)) 0 = _
        rw [List.append_assoc (l1 ++ a), List.singleton_append, wv_scan_at _ _ hn]
        simp only [List.length_append, List.length_singleton]
      have hr := ih (i + 1) (some y) (l1 ++ a ++ [y]) (a2 ++ b) ro va au (hL ▸ hR) hk' (List.sublist_append_of_sublist_right hb)
      rw [← hL] at hr
      obtain ⟨g1, g2, g3, g4, ⟨m, gm, gs⟩, g6, g7, g8⟩ := hr
      refine ⟨g1, g2, ?_, g4, ⟨a ++ y :: m, ?_, ?_⟩, g6, g7, ?_⟩
      · show (wv_we wk c (i + 1) (some y) cl (l1 ++ l2) ro va au).1.length ≤ _
        rw [List.length_cons]; omega
      · show (wv_we wk c (i + 1) (some y) cl (l1 ++ l2) ro va au).1 = _
        rw [gm]; simp only [List.append_assoc, List.cons_append, List.nil_append]
      · exact List.sublist_append_of_sublist_right (List.Sublist.cons_cons y gs)
      · show ((wv_we wk c (i + 1) (some y) cl (l1 ++ l2) ro va au).2.1.length + 1) = cl.length + 1
        rw [g8]
    | none =>
      have hl : (l1 ++ (l1 ++ l2).length :: l2).length = (l1 ++ l2).length + 1 := by
        rw [List.length_append, List.length_append, List.length_cons]; omega
      have hR' := wv_Ro_ins hR
      have e0 : (l1 ++ l2).take (wv_k p (l1 ++ l2)) ++ (l1 ++ l2).length :: (l1 ++ l2).drop (wv_k p (l1 ++ l2)) = (l1 ++ [(l1 ++ l2).length]) ++ l2 := by
        rw [hk, List.take_left, List.drop_left, List.append_assoc, List.singleton_append]
      have e1 : (l1 ++ [(l1 ++ l2).length]) ++ l2 = l1 ++ (l1 ++ l2).length :: l2 := by rw [List.append_assoc, List.singleton_append]
      have hd : (l1 ++ l2).length - wv_k p (l1 ++ l2) = l2.length := by rw [hk, List.length_append]; omega
      have hk' : wv_k (some (l1 ++ l2).length) ((l1 ++ [(l1 ++ l2).length]) ++ l2) = (l1 ++ [(l1 ++ l2).length]).length := by
        show wv_scan (l1 ++ l2).length 0 ((l1 ++ [(l1 ++ l2).length]) ++ l2) 0 = _
        rw [e1, wv_scan_at, List.length_append]
        · rfl
        · intro h
          exact absurd (hR.2 _ (List.mem_append.mpr (Or.inr h))) (Nat.lt_irrefl _)
      have hr := ih (i + 1) (some (l1 ++ l2).length) (l1 ++ [(l1 ++ l2).length]) l2
        (upd (wv_sh ro (wv_k p (l1 ++ l2)) ((l1 ++ l2).length - wv_k p (l1 ++ l2))) (wv_k p (l1 ++ l2)) (nI (l1 ++ l2).length))
        (upd va (l1 ++ l2).length (wk i)) (upd au (l1 ++ l2).length c) (e1 ▸ hR') hk' hs
      rw [← e0] at hr
      have hlen : ((l1 ++ l2).take (wv_k p (l1 ++ l2)) ++ (l1 ++ l2).length :: (l1 ++ l2).drop (wv_k p (l1 ++ l2))).length = (l1 ++ l2).length + 1 := by
        rw [e0, e1, hl]
      obtain ⟨g1, g2, g3, g4, ⟨m, gm, gs⟩, g6, g7, g8⟩ := hr
      rw [hlen] at g2 g3
      refine ⟨g1, ?_, ?_, fun h => g4 ?_, ⟨(l1 ++ l2).length :: m, ?_, List.Sublist.cons_cons _ gs⟩, fun q hq => (g6 q ?_).trans ?_, fun x hx => (g7 x hx).trans ?_, ?_⟩
      · exact Nat.le_trans (Nat.le_succ _) g2
      · refine Nat.le_trans g3 ?_
        rw [List.length_cons]; omega
      · rw [e0, e1, hd, hk]
        exact wv_sh_An h _
      · refine gm.trans ?_
        rw [List.append_assoc, List.singleton_append]
      · intro x hx
        rw [hlen] at hx
        exact hq x (by omega)
      · rw [e0, e1, List.filter_append, List.filter_append, List.filter_cons_of_neg (by rw [hq _ (Nat.le_refl _)]; decide)]
      · rw [hlen]
        by_cases h1 : x < (l1 ++ l2).length
        · rw [if_pos (by omega), if_pos h1, pk_un (by omega)]
        · rw [if_neg h1]
          by_cases h2 : x = (l1 ++ l2).length
          · rw [if_pos (by omega), h2, pk_us]
          · rw [if_neg (by omega)]
      · exact congrArg (· + 1) g8
theorem wv_filt_sub {T L : List Nat} (h : List.Sublist T L) : L.Nodup → L.filter (fun x => decide (x ∈ T)) = T := by
  induction h with
  | slnil => intro _; rfl
  | @cons T L a h ih =>
    intro hn
    have h2 := List.nodup_cons.mp hn
    rw [List.filter_cons_of_neg, ih h2.2]
    intro z
    exact h2.1 (h.subset (of_decide_eq_true z))
  | @cons_cons T L a h ih =>
    intro hn
    have h2 := List.nodup_cons.mp hn
    rw [List.filter_cons_of_pos (p := fun x => decide (x ∈ a :: T)) (a := a) (decide_eq_true List.mem_cons_self)]
    refine congrArg (a :: ·) (Eq.trans (List.filter_congr (fun x hx => ?_)) (ih h2.2))
    have hne : ¬ x = a := fun e => h2.1 (e ▸ hx)
    exact decide_eq_decide.mpr ⟨fun z => (List.mem_cons.mp z).resolve_left hne, fun z => List.mem_cons_of_mem _ z⟩
end
section
/-! X: the small methods; numbers with literals -/
theorem wv_a0 (a : Nat) : nI a + 0 = nI a := Int32.add_zero _
theorem wv_a2 (a : Nat) : nI a + 2 = nI (a + 2) := nI_add a 2
theorem wv_a3 (a : Nat) : nI a + 3 = nI (a + 3) := nI_add a 3
theorem wv_a4 (a : Nat) : nI a + 4 = nI (a + 4) := nI_add a 4
theorem wv_a5 (a : Nat) : nI a + 5 = nI (a + 5) := nI_add a 5
theorem wv_m6 (a : Nat) : nI a * 6 = nI (a * 6) := pk_mul a 6
theorem wv_m10 (a : Nat) : nI a * 10 = nI (a * 10) := pk_mul a 10
theorem wv_m21 (a : Nat) : nI a * 21 = nI (a * 21) := pk_mul a 21
theorem wv_m150 (a : Nat) : nI a * 150 = nI (a * 150) := pk_mul a 150
theorem wv_lt0 {a : Nat} (h : a < 2 ^ 31) : (nI a < 0) = False := eq_false (nI_pos h)
theorem wv_ge0 {a : Nat} (h : a < 2 ^ 31) : (0 ≤ nI a) = True := eq_true (nI_pos' h)
/-- is r a revision -/
theorem wv_rev {A B : Prop} {r : Int32} {rc : Nat} (hrc : rc ≤ 16) (h0 : (¬ ∃ k, k < rc ∧ r = nI k) → A) (h1 : ∀ k, k < rc → r = nI k → B) :
    (r < 0 → A) ∧ (¬ r < 0 → ((nI rc ≤ r → A) ∧ (¬ nI rc ≤ r → B))) := by
  refine ⟨fun h => h0 ?_, fun h => ⟨fun h2 => h0 ?_, fun h2 => ?_⟩⟩
  · rintro ⟨k, hk, rfl⟩
    exact nI_pos (by omega) h
  · rintro ⟨k, hk, rfl⟩
    exact nI_ge hk (by omega) h2
  · obtain ⟨k, hk, rfl⟩ := nI_of h
    rcases Nat.lt_or_ge k rc with z | z
    · exact h1 k z rfl
    · exact absurd (nI_le z hk) h2
def wv_cm (st : Nat → Nat → Bool) (a b x : Nat) : Bool := st a x && st b x
def wv_ch (st kn : Nat → Nat → Bool) (am : Nat → Nat) (a b x : Nat) : Bool := (st a x && !kn b (am x)) || (st b x && kn a (am x))
def wv_ij (st kn : Nat → Nat → Bool) (am : Nat → Nat) (a b x : Nat) : Bool := if st a x = true then (st b x || !kn b (am x)) else (st b x && !kn a (am x))
def wv_CF (st kn : Nat → Nat → Bool) (am : Nat → Nat) (a b : Nat) : List Nat → Nat → Nat → Nat → Nat → Nat → Nat → Bool → Bool → List (List Nat) :=
  wv_cf (wv_cm st a b) (wv_ch st kn am a b) (wv_ch st kn am b a) (st a) (st b) (wv_ij st kn am a b)
def wv_s6 (M : List (List Nat)) : Prop := ∀ t, t ∈ M → t.length = 6
theorem wv_s6_len : ∀ M : List (List Nat), wv_s6 M → M.flatten.length = M.length * 6 := by
  intro M
  induction M with
  | nil => intro _; rfl
  | cons t M ih =>
    intro h
    rw [List.flatten_cons, List.length_append, h t List.mem_cons_self, ih (fun t ht => h t (List.mem_cons_of_mem _ ht)), List.length_cons]
    omega
theorem wv_s6_snoc {M : List (List Nat)} {s a t b u j : Nat} (h : wv_s6 M) : wv_s6 (M ++ [wv_rec s a t b u j]) := by
  intro t ht
  rcases List.mem_append.mp ht with z | z
  · exact h t z
  · rw [List.mem_singleton.mp z]; rfl
section
variable {rl ll lc rc wl w1 : Nat} {w2 jl cc pA pB sA sB sJ dA dB : Int32} {va au ho pl ro fp sp hi tl tx wk jo cd be ch : Nat → Int32}
theorem wv_xrev0 {post : Int32 → Prop} {r : Int32} (hrc : rc ≤ 16) (h : ¬ ∃ k, k < rc ∧ r = nI k) (hp : post 0) : wpX_isRevision post (nI rl, nI ll, nI lc, nI rc, nI wl, nI w1, w2, jl, cc, pA, pB, sA, sB, sJ, dA, dB, va, au, ho, pl, ro, fp, sp, hi, tl, tx, wk, jo, cd, be, ch) r := by
  rw [wpX_isRevision]
  exact wv_rev hrc (fun _ => hp) (fun k hk e => absurd ⟨k, hk, e⟩ h)
theorem wv_xrev1 {post : Int32 → Prop} {k : Nat} (hrc : rc ≤ 16) (h : k < rc) (hp : post 1) : wpX_isRevision post (nI rl, nI ll, nI lc, nI rc, nI wl, nI w1, w2, jl, cc, pA, pB, sA, sB, sJ, dA, dB, va, au, ho, pl, ro, fp, sp, hi, tl, tx, wk, jo, cd, be, ch) (nI k) := by
  rw [wpX_isRevision]
  exact wv_rev hrc (fun z => absurd ⟨k, h, rfl⟩ z) (fun _ _ _ => hp)
theorem wv_xpos0 {post : Int32 → Prop} {i : Int32} {r n : Nat} (hr : r < 16) (hn : n ≤ 10) (ht : tl r = nI n) (h : ¬ ∃ k, k < n ∧ i = nI k) (hp : post 0) : wpX_isPosition post (nI rl, nI ll, nI lc, nI rc, nI wl, nI w1, w2, jl, cc, pA, pB, sA, sB, sJ, dA, dB, va, au, ho, pl, ro, fp, sp, hi, tl, tx, wk, jo, cd, be, ch) (nI r) i := by
  rw [wpX_isPosition, nI_clamp (by omega), ht]
  have := wv_rev (A := post 0) (B := post 1) (r := i) (rc := n) (by omega) (fun _ => hp) (fun k hk e => absurd ⟨k, hk, e⟩ h)
  exact ⟨this.1, fun z => ⟨vp_in_nI hr (by omega), this.2 z⟩⟩
theorem wv_xpos1 {post : Int32 → Prop} {i r n : Nat} (hr : r < 16) (hn : n ≤ 10) (ht : tl r = nI n) (h : i < n) (hp : post 1) : wpX_isPosition post (nI rl, nI ll, nI lc, nI rc, nI wl, nI w1, w2, jl, cc, pA, pB, sA, sB, sJ, dA, dB, va, au, ho, pl, ro, fp, sp, hi, tl, tx, wk, jo, cd, be, ch) (nI r) (nI i) := by
  rw [wpX_isPosition, nI_clamp (by omega), ht]
  have := wv_rev (A := post 0) (B := post 1) (r := nI i) (rc := n) (by omega) (fun z => absurd ⟨i, h, rfl⟩ z) (fun _ _ _ => hp)
  exact ⟨this.1, fun z => ⟨vp_in_nI hr (by omega), this.2 z⟩⟩
theorem wv_xstands {post : Int32 → Prop} {x r : Nat} {b : Bool} (hx : x < 150) (hr : r < 16) (hb : bt (ho x) r = b) (hp : post (wv_b b)) : wpX_stands post (nI rl, nI ll, nI lc, nI rc, nI wl, nI w1, w2, jl, cc, pA, pB, sA, sB, sJ, dA, dB, va, au, ho, pl, ro, fp, sp, hi, tl, tx, wk, jo, cd, be, ch) (nI x) (nI r) := by
  rw [wpX_stands, nI_clamp (by omega), wv_bit _ (by omega), hb]
  refine ⟨vp_in_nI hx (by omega), wv_b_br (fun e => ?_) (fun e => ?_)⟩ <;> (rw [e] at hp; exact hp)
theorem wv_xknows {post : Int32 → Prop} {k r : Nat} {b : Bool} (hk : k < 16) (hr : r < 16) (hb : bt (hi r) k = b) (hp : post (wv_b b)) : wpX_knows post (nI rl, nI ll, nI lc, nI rc, nI wl, nI w1, w2, jl, cc, pA, pB, sA, sB, sJ, dA, dB, va, au, ho, pl, ro, fp, sp, hi, tl, tx, wk, jo, cd, be, ch) (nI r) (nI k) := by
  rw [wpX_knows, nI_clamp (by omega), wv_bit _ (by omega), hb]
  refine ⟨vp_in_nI hr (by omega), wv_b_br (fun e => ?_) (fun e => ?_)⟩ <;> (rw [e] at hp; exact hp)
theorem wv_xadd {post : SX → Prop} {j x : Nat} (hj : j < 20) (k : post (nI rl, nI ll, nI lc, nI rc, nI wl, nI w1, w2, nI (j + 1), cc, pA, pB, sA, sB, sJ, dA, dB, va, au, ho, pl, ro, fp, sp, hi, tl, tx, wk, upd jo j (nI x), cd, be, ch)) : wpX_addToJoint post (nI rl, nI ll, nI lc, nI rc, nI wl, nI w1, w2, nI j, cc, pA, pB, sA, sB, sJ, dA, dB, va, au, ho, pl, ro, fp, sp, hi, tl, tx, wk, jo, cd, be, ch) (nI x) := by
  simp (disch := omega) only [wpX_addToJoint, forall_eq, nI_add, nI_1, wv_a0, wv_a2, wv_a3, wv_a4, wv_a5, wv_m6, wv_m10, wv_m21, wv_m150, pk_m1, nI_pred, pk_sub, nI_clamp, vp_in_nI, nI_leI, nI_ltI, nI_eq, wv_lt0, wv_ge0, true_implies, forall_const, not_true_eq_false, not_false_eq_true, false_implies, and_true, true_and, implies_true, and_self, if_true, if_false]
  exact k
theorem wv_xclose0 {post : SX → Prop} {bA bB : Bool} (h : (bA && bB) = false) (k : post (nI rl, nI ll, nI lc, nI rc, nI wl, nI w1, w2, jl, cc, pA, pB, sA, sB, sJ, wv_b bA, wv_b bB, va, au, ho, pl, ro, fp, sp, hi, tl, tx, wk, jo, cd, be, ch)) : wpX_closeRegion post (nI rl, nI ll, nI lc, nI rc, nI wl, nI w1, w2, jl, cc, pA, pB, sA, sB, sJ, wv_b bA, wv_b bB, va, au, ho, pl, ro, fp, sp, hi, tl, tx, wk, jo, cd, be, ch) := by
  rw [wpX_closeRegion]
  cases bA with
  | false => exact br_t rfl k
  | true =>
    cases bB with
    | false => exact br_f (by decide) (br_t rfl k)
    | true => cases h
theorem wv_xclose1 {post : SX → Prop} {M : List (List Nat)} {j a b s t u : Nat} (hs : s ≤ a) (ht : t ≤ b) (hu : u ≤ j) (ha : a < 1000) (hb : b < 1000) (hj : j < 1000)
    (hM : wv_s6 M) (hc : M.length < 11) (hd : wv_An cd 0 M.flatten)
    (k : ∀ cd' : Nat → Int32, wv_An cd' 0 (M ++ [wv_rec s a t b u j]).flatten → post (nI rl, nI ll, nI lc, nI rc, nI wl, nI w1, w2, nI j, nI (M.length + 1), nI a, nI b, nI s, nI t, nI u, 1, 1, va, au, ho, pl, ro, fp, sp, hi, tl, tx, wk, jo, cd', be, ch)) :
    wpX_closeRegion post (nI rl, nI ll, nI lc, nI rc, nI wl, nI w1, w2, nI j, nI M.length, nI a, nI b, nI s, nI t, nI u, 1, 1, va, au, ho, pl, ro, fp, sp, hi, tl, tx, wk, jo, cd, be, ch) := by
  have n10 : ¬ (1 : Int32) = 0 := by decide
  simp (disch := omega) only [wpX_closeRegion, n10, forall_eq, nI_add, nI_1, wv_a0, wv_a2, wv_a3, wv_a4, wv_a5, wv_m6, wv_m10, wv_m21, wv_m150, pk_m1, nI_pred, pk_sub, nI_clamp, vp_in_nI, nI_leI, nI_ltI, nI_eq, wv_lt0, wv_ge0, true_implies, forall_const, not_true_eq_false, not_false_eq_true, false_implies, and_true, true_and, implies_true, and_self, if_true, if_false]
  apply k
  have e : (M ++ [wv_rec s a t b u j]).flatten = M.flatten ++ wv_rec s a t b u j := by
    rw [List.flatten_append, List.flatten_cons, List.flatten_nil, List.append_nil]
  have hl := wv_s6_len M hM
  rw [e]
  refine wv_An_app.mpr ⟨?_, ?_⟩
  · iterate 6 refine wv_An_upd ?_ (Or.inr (by omega))
    exact hd
  · rw [Nat.zero_add, hl]
    unfold wv_rec
    refine wv_An_cons.mpr ⟨?_, wv_An_cons.mpr ⟨?_, wv_An_cons.mpr ⟨?_, wv_An_cons.mpr ⟨?_, wv_An_cons.mpr ⟨?_, wv_An_cons.mpr ⟨?_, wv_An_nil⟩⟩⟩⟩⟩⟩
    · rw [pk_un (by omega), pk_un (by omega), pk_un (by omega), pk_un (by omega), pk_un (by omega), pk_us]
    · rw [pk_un (by omega), pk_un (by omega), pk_un (by omega), pk_un (by omega), pk_us]
    · rw [pk_un (by omega), pk_un (by omega), pk_un (by omega), pk_us]
    · rw [pk_un (by omega), pk_un (by omega), pk_us]
    · rw [pk_un (by omega), pk_us]
    · rw [pk_us]
/-- what a closing adds -/
def wv_E (bA bB : Bool) (s a t b u j : Nat) : List (List Nat) := if (bA && bB) = true then [wv_rec s a t b u j] else []
theorem wv_s6_E {M : List (List Nat)} {bA bB : Bool} {s a t b u j : Nat} (h : wv_s6 M) : wv_s6 (M ++ wv_E bA bB s a t b u j) := by
  unfold wv_E
  cases (bA && bB) with
  | true => rw [if_pos rfl]; exact wv_s6_snoc h
  | false => rw [if_neg (by decide), List.append_nil]; exact h
theorem wv_xclose {post : SX → Prop} {M : List (List Nat)} {j a b s t u : Nat} {bA bB : Bool} (hs : s ≤ a) (ht : t ≤ b) (hu : u ≤ j) (ha : a < 1000) (hb : b < 1000) (hj : j < 1000)
    (hM : wv_s6 M) (hc : (M ++ wv_E bA bB s a t b u j).length ≤ 11) (hd : wv_An cd 0 M.flatten)
    (k : ∀ cd' : Nat → Int32, wv_An cd' 0 (M ++ wv_E bA bB s a t b u j).flatten → post (nI rl, nI ll, nI lc, nI rc, nI wl, nI w1, w2, nI j, nI (M ++ wv_E bA bB s a t b u j).length, nI a, nI b, nI s, nI t, nI u, wv_b bA, wv_b bB, va, au, ho, pl, ro, fp, sp, hi, tl, tx, wk, jo, cd', be, ch)) :
    wpX_closeRegion post (nI rl, nI ll, nI lc, nI rc, nI wl, nI w1, w2, nI j, nI M.length, nI a, nI b, nI s, nI t, nI u, wv_b bA, wv_b bB, va, au, ho, pl, ro, fp, sp, hi, tl, tx, wk, jo, cd, be, ch) := by
  unfold wv_E at hc k
  cases h : (bA && bB) with
  | true =>
    rw [if_pos h] at hc k
    rw [List.length_append, List.length_singleton] at hc k
    obtain ⟨rfl, rfl⟩ := Bool.and_eq_true_iff.mp h
    exact wv_xclose1 hs ht hu ha hb hj hM (by omega) hd k
  | false =>
    rw [if_neg (by rw [h]; decide), List.append_nil] at k
    exact wv_xclose0 h (k cd hd)
end
end
section
/-! X: the one pass over the roll -/
section
variable {st kn : Nat → Nat → Bool} {am : Nat → Nat} {ra rb : Nat}
theorem wv_CF_n {pA pB pJ sA sB sJ : Nat} {dA dB : Bool} : wv_CF st kn am ra rb [] pA pB pJ sA sB sJ dA dB = wv_E dA dB sA pA sB pB sJ pJ := rfl
theorem wv_CF_t {x : Nat} {l : List Nat} {pA pB pJ sA sB sJ : Nat} {dA dB : Bool} (h1 : st ra x = true) (h2 : st rb x = true) :
    wv_CF st kn am ra rb (x :: l) pA pB pJ sA sB sJ dA dB = wv_E dA dB sA pA sB pB sJ pJ ++ wv_CF st kn am ra rb l (pA + 1) (pB + 1) (pJ + 1) (pA + 1) (pB + 1) (pJ + 1) false false := by
  unfold wv_CF
  rw [wv_cf, if_pos (by unfold wv_cm; rw [h1, h2]; rfl)]
  rfl
theorem wv_CF_f {x : Nat} {l : List Nat} {pA pB pJ sA sB sJ : Nat} {dA dB : Bool} (h : wv_cm st ra rb x = false) :
    wv_CF st kn am ra rb (x :: l) pA pB pJ sA sB sJ dA dB = wv_CF st kn am ra rb l (pA + (st ra x).toNat) (pB + (st rb x).toNat) (pJ + (wv_ij st kn am ra rb x).toNat) sA sB sJ (dA || wv_ch st kn am ra rb x) (dB || wv_ch st kn am rb ra x) := by
  unfold wv_CF
  rw [wv_cf, if_neg (by rw [h]; decide)]
theorem wv_CF_A1 {x : Nat} {l : List Nat} {pA pB pJ sA sB sJ : Nat} {dA dB : Bool} (h1 : st ra x = true) (h2 : st rb x = false) (h3 : kn rb (am x) = true) :
    wv_CF st kn am ra rb (x :: l) pA pB pJ sA sB sJ dA dB = wv_CF st kn am ra rb l (pA + 1) pB pJ sA sB sJ dA true ∧ wv_ij st kn am ra rb x = false := by
  have e : wv_ij st kn am ra rb x = false := by unfold wv_ij; rw [if_pos h1, h2, h3]; rfl
  refine ⟨?_, e⟩
  rw [wv_CF_f (by unfold wv_cm; rw [h1, h2]; rfl), e]
  unfold wv_ch
  rw [h1, h2, h3]
  cases dA <;> cases dB <;> rfl
theorem wv_CF_A0 {x : Nat} {l : List Nat} {pA pB pJ sA sB sJ : Nat} {dA dB : Bool} (h1 : st ra x = true) (h2 : st rb x = false) (h3 : kn rb (am x) = false) :
    wv_CF st kn am ra rb (x :: l) pA pB pJ sA sB sJ dA dB = wv_CF st kn am ra rb l (pA + 1) pB (pJ + 1) sA sB sJ true dB ∧ wv_ij st kn am ra rb x = true := by
  have e : wv_ij st kn am ra rb x = true := by unfold wv_ij; rw [if_pos h1, h2, h3]; rfl
  refine ⟨?_, e⟩
  rw [wv_CF_f (by unfold wv_cm; rw [h1, h2]; rfl), e]
  unfold wv_ch
  rw [h1, h2, h3]
  cases dA <;> cases dB <;> rfl
theorem wv_CF_B1 {x : Nat} {l : List Nat} {pA pB pJ sA sB sJ : Nat} {dA dB : Bool} (h1 : st ra x = false) (h2 : st rb x = true) (h3 : kn ra (am x) = true) :
    wv_CF st kn am ra rb (x :: l) pA pB pJ sA sB sJ dA dB = wv_CF st kn am ra rb l pA (pB + 1) pJ sA sB sJ true dB ∧ wv_ij st kn am ra rb x = false := by
  have e : wv_ij st kn am ra rb x = false := by unfold wv_ij; rw [if_neg (by rw [h1]; decide), h2, h3]; rfl
  refine ⟨?_, e⟩
  rw [wv_CF_f (by unfold wv_cm; rw [h1, h2]; rfl), e]
  unfold wv_ch
  rw [h1, h2, h3]
  cases dA <;> cases dB <;> rfl
theorem wv_CF_B0 {x : Nat} {l : List Nat} {pA pB pJ sA sB sJ : Nat} {dA dB : Bool} (h1 : st ra x = false) (h2 : st rb x = true) (h3 : kn ra (am x) = false) :
    wv_CF st kn am ra rb (x :: l) pA pB pJ sA sB sJ dA dB = wv_CF st kn am ra rb l pA (pB + 1) (pJ + 1) sA sB sJ dA true ∧ wv_ij st kn am ra rb x = true := by
  have e : wv_ij st kn am ra rb x = true := by unfold wv_ij; rw [if_neg (by rw [h1]; decide), h2, h3]; rfl
  refine ⟨?_, e⟩
  rw [wv_CF_f (by unfold wv_cm; rw [h1, h2]; rfl), e]
  unfold wv_ch
  rw [h1, h2, h3]
  cases dA <;> cases dB <;> rfl
theorem wv_CF_0 {x : Nat} {l : List Nat} {pA pB pJ sA sB sJ : Nat} {dA dB : Bool} (h1 : st ra x = false) (h2 : st rb x = false) :
    wv_CF st kn am ra rb (x :: l) pA pB pJ sA sB sJ dA dB = wv_CF st kn am ra rb l pA pB pJ sA sB sJ dA dB ∧ wv_ij st kn am ra rb x = false := by
  have e : wv_ij st kn am ra rb x = false := by unfold wv_ij; rw [if_neg (by rw [h1]; decide), h2]; rfl
  refine ⟨?_, e⟩
  rw [wv_CF_f (by unfold wv_cm; rw [h1, h2]; rfl), e]
  unfold wv_ch
  rw [h1, h2]
  cases dA <;> cases dB <;> rfl
theorem wv_ij_2 {x : Nat} (h1 : st ra x = true) (h2 : st rb x = true) : wv_ij st kn am ra rb x = true := by
  unfold wv_ij; rw [if_pos h1, h2]; rfl
end
section
variable {rl ll lc rc wl w1 : Nat} {w2 jl cc pA pB sA sB sJ dA dB : Int32} {va au ho pl ro fp sp hi tl tx wk jo cd be ch : Nat → Int32} {st kn : Nat → Nat → Bool} {am : Nat → Nat} {ra rb : Nat}
theorem wv_xcommon {post : SX → Prop} {M : List (List Nat)} {j a b s t u x : Nat} {bA bB : Bool} (hs : s ≤ a) (ht : t ≤ b) (hu : u ≤ j) (ha : a < 1000) (hb : b < 1000) (hj : j < 20)
    (hM : wv_s6 M) (hc : (M ++ wv_E bA bB s a t b u j).length ≤ 11) (hd : wv_An cd 0 M.flatten)
    (k : ∀ cd' : Nat → Int32, wv_An cd' 0 (M ++ wv_E bA bB s a t b u j).flatten → post (nI rl, nI ll, nI lc, nI rc, nI wl, nI w1, w2, nI (j + 1), nI (M ++ wv_E bA bB s a t b u j).length, nI (a + 1), nI (b + 1), nI (a + 1), nI (b + 1), nI (j + 1), wv_b false, wv_b false, va, au, ho, pl, ro, fp, sp, hi, tl, tx, wk, upd jo j (nI x), cd', be, ch)) :
    wpX_passCommon post (nI rl, nI ll, nI lc, nI rc, nI wl, nI w1, w2, nI j, nI M.length, nI a, nI b, nI s, nI t, nI u, wv_b bA, wv_b bB, va, au, ho, pl, ro, fp, sp, hi, tl, tx, wk, jo, cd, be, ch) (nI x) := by
  rw [wpX_passCommon]
  refine wv_xclose hs ht hu ha hb (by omega) hM hc hd (fun cd' hd' => ?_)
  refine wv_xadd hj ?_
  exact nm_r (nI_1 a) (nm_r (nI_1 b) (k cd' hd'))
theorem wv_xonlyA {post : SX → Prop} {j a x : Nat} (hx : x < 150) (hrb : rb < 16) (hj : kn rb (am x) = false → j < 20) (hau : au x = nI (am x)) (ham : am x < 16) (hk : bt (hi rb) (am x) = kn rb (am x))
    (k1 : kn rb (am x) = true → post (nI rl, nI ll, nI lc, nI rc, nI wl, nI w1, w2, nI j, cc, nI (a + 1), pB, sA, sB, sJ, dA, wv_b true, va, au, ho, pl, ro, fp, sp, hi, tl, tx, wk, jo, cd, be, ch))
    (k0 : kn rb (am x) = false → post (nI rl, nI ll, nI lc, nI rc, nI wl, nI w1, w2, nI (j + 1), cc, nI (a + 1), pB, sA, sB, sJ, wv_b true, dB, va, au, ho, pl, ro, fp, sp, hi, tl, tx, wk, upd jo j (nI x), cd, be, ch)) :
    wpX_passOnlyA post (nI rl, nI ll, nI lc, nI rc, nI wl, nI w1, w2, nI j, cc, nI a, pB, sA, sB, sJ, dA, dB, va, au, ho, pl, ro, fp, sp, hi, tl, tx, wk, jo, cd, be, ch) (nI x) (nI rb) := by
  rw [wpX_passOnlyA, nI_clamp (by omega), hau]
  refine nm_r (nI_1 a) (And.intro (vp_in_nI hx (by omega)) ?_)
  refine wv_xknows ham hrb hk ?_
  exact wv_b_br (fun e => wv_xadd (hj e) (k0 e)) (fun e => k1 e)
theorem wv_xonlyB {post : SX → Prop} {j b x : Nat} (hx : x < 150) (hra : ra < 16) (hj : kn ra (am x) = false → j < 20) (hau : au x = nI (am x)) (ham : am x < 16) (hk : bt (hi ra) (am x) = kn ra (am x))
    (k1 : kn ra (am x) = true → post (nI rl, nI ll, nI lc, nI rc, nI wl, nI w1, w2, nI j, cc, pA, nI (b + 1), sA, sB, sJ, wv_b true, dB, va, au, ho, pl, ro, fp, sp, hi, tl, tx, wk, jo, cd, be, ch))
    (k0 : kn ra (am x) = false → post (nI rl, nI ll, nI lc, nI rc, nI wl, nI w1, w2, nI (j + 1), cc, pA, nI (b + 1), sA, sB, sJ, dA, wv_b true, va, au, ho, pl, ro, fp, sp, hi, tl, tx, wk, upd jo j (nI x), cd, be, ch)) :
    wpX_passOnlyB post (nI rl, nI ll, nI lc, nI rc, nI wl, nI w1, w2, nI j, cc, pA, nI b, sA, sB, sJ, dA, dB, va, au, ho, pl, ro, fp, sp, hi, tl, tx, wk, jo, cd, be, ch) (nI x) (nI ra) := by
  rw [wpX_passOnlyB, nI_clamp (by omega), hau]
  refine nm_r (nI_1 b) (And.intro (vp_in_nI hx (by omega)) ?_)
  refine wv_xknows ham hra hk ?_
  exact wv_b_br (fun e => wv_xadd (hj e) (k0 e)) (fun e => k1 e)
theorem wv_xcmp {post : SX → Prop} (hra : ra < 16) (hrb : rb < 16) (hlc : lc ≤ 150)
    (hA : ∀ x, x < lc → au x = nI (am x) ∧ am x < 16) (hH : ∀ x, x < lc → ∀ r, r < 16 → bt (ho x) r = st r x)
    (hKa : ∀ k, k < 16 → bt (hi ra) k = kn ra k) (hKb : ∀ k, k < 16 → bt (hi rb) k = kn rb k) :
    ∀ (l : List Nat) (n i a b s t u : Nat) (bA bB : Bool) (jo cd : Nat → Int32) (M : List (List Nat)) (JL : List Nat),
    l.length < n → i + l.length = lc → wv_An ro i l → (∀ x, x ∈ l → x < lc) → s ≤ a → t ≤ b → u ≤ JL.length → a ≤ i → b ≤ i →
    (JL ++ l.filter (wv_ij st kn am ra rb)).length ≤ 20 → (M ++ wv_CF st kn am ra rb l a b JL.length s t u bA bB).length ≤ 11 → wv_s6 M → wv_An cd 0 M.flatten → wv_An jo 0 JL →
    (∀ (pA pB sA sB sJ dA dB : Int32) (jo' cd' : Nat → Int32), wv_An jo' 0 (JL ++ l.filter (wv_ij st kn am ra rb)) → wv_s6 (M ++ wv_CF st kn am ra rb l a b JL.length s t u bA bB) →
      wv_An cd' 0 (M ++ wv_CF st kn am ra rb l a b JL.length s t u bA bB).flatten →
      post (nI rl, nI ll, nI lc, nI rc, nI wl, nI w1, w2, nI (JL ++ l.filter (wv_ij st kn am ra rb)).length, nI (M ++ wv_CF st kn am ra rb l a b JL.length s t u bA bB).length, pA, pB, sA, sB, sJ, dA, dB, va, au, ho, pl, ro, fp, sp, hi, tl, tx, wk, jo', cd', be, ch)) →
    wX_compare_26 post (nI ra) (nI rb) n (nI i) (nI rl) (nI ll) (nI lc) (nI rc) (nI wl) (nI w1) w2 (nI JL.length) (nI M.length) (nI a) (nI b) (nI s) (nI t) (nI u) (wv_b bA) (wv_b bB) va au ho pl ro fp sp hi tl tx wk jo cd be ch := by
  intro l
  induction l with
  | nil =>
    intro n i a b s t u bA bB jo cd M JL hn hi' hro hL hs ht hu hai hbi hJ hc hM hd hj k
    cases n with
    | zero => exact absurd hn (Nat.not_lt_zero _)
    | succ n =>
      rw [List.length_nil] at hi'
      rw [List.filter_nil, List.append_nil] at hJ k
      rw [wv_CF_n] at hc k
      refine br_t (nI_le (by omega) (by omega)) ?_
      refine wv_xclose hs ht hu (by omega) (by omega) (by omega) hM hc hd (fun cd' hd' => ?_)
      exact k _ _ _ _ _ _ _ jo cd' hj (wv_s6_E hM) hd'
  | cons x l ih =>
    intro n i a b s t u bA bB jo cd M JL hn hi' hro hL hs ht hu hai hbi hJ hc hM hd hj k
    cases n with
    | zero => exact absurd hn (Nat.not_lt_zero _)
    | succ n =>
      rw [List.length_cons] at hi' hn
      obtain ⟨hr0, hr1⟩ := wv_An_cons.mp hro
      have hxl : x < lc := hL x List.mem_cons_self
      have hL' : ∀ y, y ∈ l → y < lc := fun y hy => hL y (List.mem_cons_of_mem _ hy)
      obtain ⟨hau, ham⟩ := hA x hxl
      have hJl : JL.length ≤ 20 := by rw [List.length_append] at hJ; omega
      have esn : ∀ m : List Nat, (JL ++ [x]) ++ m = JL ++ x :: m := fun m => by rw [List.append_assoc, List.singleton_append]
      have els : (JL ++ [x]).length = JL.length + 1 := by rw [List.length_append]; rfl
      refine br_f (nI_ge (by omega) (by omega)) (And.intro (vp_in_nI (by omega) (by omega)) (nm_r (e' := nI x) (by rw [nI_clamp (by omega)]; exact hr0) ?_))
      refine wv_xstands (b := st ra x) (by omega) hra (hH x hxl ra hra) ?_
      refine wv_xstands (b := st rb x) (by omega) hrb (hH x hxl rb hrb) ?_
      cases h1 : st ra x with
      | true =>
        cases h2 : st rb x with
        | true =>
          have eij : wv_ij st kn am ra rb x = true := wv_ij_2 h1 h2
          rw [List.filter_cons_of_pos eij] at hJ k
          rw [← esn] at hJ k
          rw [wv_CF_t h1 h2, ← List.append_assoc] at hc k
          rw [← els] at hc k
          refine br_f (by decide) (br_f (by decide) ?_)
          have hJ1 : JL.length < 20 := by
            have := hJ
            rw [List.length_append, els] at this
            omega
          refine wv_xcommon hs ht hu (by omega) (by omega) hJ1 hM ?_ hd (fun cd' hd' => ?_)
          · rw [List.length_append] at hc
            omega
          · refine nm_r (nI_1 i) ?_
            have hj' : wv_An (upd jo JL.length (nI x)) 0 (JL ++ [x]) := by
              have := wv_An_snoc (x := x) hj
              rw [Nat.zero_add] at this
              exact this
            have := ih n (i + 1) (a + 1) (b + 1) (a + 1) (b + 1) (JL ++ [x]).length false false (upd jo JL.length (nI x)) cd' (M ++ wv_E bA bB s a t b u JL.length) (JL ++ [x]) (by omega) (by omega) hr1 hL' (Nat.le_refl _) (Nat.le_refl _) (Nat.le_refl _) (by omega) (by omega) hJ hc (wv_s6_E hM) hd' hj' k
            rw [els] at this
            exact this
        | false =>
          refine br_f (by decide) (br_t rfl ?_)
          refine br_f (by decide) ?_
          refine wv_xonlyA (am := am) (kn := kn) (by omega) hrb (fun e => ?_) hau ham (hKb _ ham) (fun e => ?_) (fun e => ?_)
          · have eij := (wv_CF_A0 (l := l) (pA := a) (pB := b) (pJ := JL.length) (sA := s) (sB := t) (sJ := u) (dA := bA) (dB := bB) h1 h2 e).2
            rw [List.filter_cons_of_pos eij, List.length_append, List.length_cons] at hJ
            omega
          · obtain ⟨ecf, eij⟩ := wv_CF_A1 (l := l) (pA := a) (pB := b) (pJ := JL.length) (sA := s) (sB := t) (sJ := u) (dA := bA) (dB := bB) h1 h2 e
            rw [List.filter_cons_of_neg (by rw [eij]; decide)] at hJ k
            rw [ecf] at hc k
            exact nm_r (nI_1 i) (ih n (i + 1) (a + 1) b s t u bA true jo cd M JL (by omega) (by omega) hr1 hL' (by omega) ht hu (by omega) (by omega) hJ hc hM hd hj k)
          · obtain ⟨ecf, eij⟩ := wv_CF_A0 (l := l) (pA := a) (pB := b) (pJ := JL.length) (sA := s) (sB := t) (sJ := u) (dA := bA) (dB := bB) h1 h2 e
            rw [List.filter_cons_of_pos eij] at hJ k
            rw [← esn] at hJ k
            rw [ecf, ← els] at hc k
            refine nm_r (nI_1 i) ?_
            have hj' : wv_An (upd jo JL.length (nI x)) 0 (JL ++ [x]) := by
              have := wv_An_snoc (x := x) hj
              rw [Nat.zero_add] at this
              exact this
            have := ih n (i + 1) (a + 1) b s t u true bB (upd jo JL.length (nI x)) cd M (JL ++ [x]) (by omega) (by omega) hr1 hL' (by omega) ht (by omega) (by omega) (by omega) hJ hc hM hd hj' k
            rw [els] at this
            exact this
      | false =>
        refine br_t rfl ?_
        refine br_t rfl ?_
        cases h2 : st rb x with
        | true =>
          refine br_f (by decide) ?_
          refine wv_xonlyB (am := am) (kn := kn) (by omega) hra (fun e => ?_) hau ham (hKa _ ham) (fun e => ?_) (fun e => ?_)
          · have eij := (wv_CF_B0 (l := l) (pA := a) (pB := b) (pJ := JL.length) (sA := s) (sB := t) (sJ := u) (dA := bA) (dB := bB) h1 h2 e).2
            rw [List.filter_cons_of_pos eij, List.length_append, List.length_cons] at hJ
            omega
          · obtain ⟨ecf, eij⟩ := wv_CF_B1 (l := l) (pA := a) (pB := b) (pJ := JL.length) (sA := s) (sB := t) (sJ := u) (dA := bA) (dB := bB) h1 h2 e
            rw [List.filter_cons_of_neg (by rw [eij]; decide)] at hJ k
            rw [ecf] at hc k
            exact nm_r (nI_1 i) (ih n (i + 1) a (b + 1) s t u true bB jo cd M JL (by omega) (by omega) hr1 hL' hs (by omega) hu (by omega) (by omega) hJ hc hM hd hj k)
          · obtain ⟨ecf, eij⟩ := wv_CF_B0 (l := l) (pA := a) (pB := b) (pJ := JL.length) (sA := s) (sB := t) (sJ := u) (dA := bA) (dB := bB) h1 h2 e
            rw [List.filter_cons_of_pos eij] at hJ k
            rw [← esn] at hJ k
            rw [ecf, ← els] at hc k
            refine nm_r (nI_1 i) ?_
            have hj' : wv_An (upd jo JL.length (nI x)) 0 (JL ++ [x]) := by
              have := wv_An_snoc (x := x) hj
              rw [Nat.zero_add] at this
              exact this
            have := ih n (i + 1) a (b + 1) s t u bA true (upd jo JL.length (nI x)) cd M (JL ++ [x]) (by omega) (by omega) hr1 hL' hs (by omega) (by omega) (by omega) (by omega) hJ hc hM hd hj' k
            rw [els] at this
            exact this
        | false =>
          obtain ⟨ecf, eij⟩ := wv_CF_0 (kn := kn) (am := am) (l := l) (pA := a) (pB := b) (pJ := JL.length) (sA := s) (sB := t) (sJ := u) (dA := bA) (dB := bB) h1 h2
          rw [List.filter_cons_of_neg (by rw [eij]; decide)] at hJ k
          rw [ecf] at hc k
          refine br_t rfl ?_
          exact nm_r (nI_1 i) (ih n (i + 1) a b s t u bA bB jo cd M JL (by omega) (by omega) hr1 hL' hs ht hu (by omega) (by omega) hJ hc hM hd hj k)
/-- compare leaves the joint text and the conflicts -/
theorem wv_xcompare {post : SX → Prop} {L : List Nat} (hra : ra < 16) (hrb : rb < 16) (hlc : lc ≤ 150) (hLl : L.length = lc) (hro : wv_An ro 0 L) (hLm : ∀ x, x ∈ L → x < lc)
    (hA : ∀ x, x < lc → au x = nI (am x) ∧ am x < 16) (hH : ∀ x, x < lc → ∀ r, r < 16 → bt (ho x) r = st r x)
    (hKa : ∀ k, k < 16 → bt (hi ra) k = kn ra k) (hKb : ∀ k, k < 16 → bt (hi rb) k = kn rb k)
    (hJ : (L.filter (wv_ij st kn am ra rb)).length ≤ 20) (hc : (wv_CF st kn am ra rb L 0 0 0 0 0 0 false false).length ≤ 11)
    (k : ∀ (pA pB sA sB sJ dA dB : Int32) (jo' cd' : Nat → Int32), wv_An jo' 0 (L.filter (wv_ij st kn am ra rb)) → wv_s6 (wv_CF st kn am ra rb L 0 0 0 0 0 0 false false) →
      wv_An cd' 0 (wv_CF st kn am ra rb L 0 0 0 0 0 0 false false).flatten →
      post (nI rl, nI ll, nI lc, nI rc, nI wl, nI w1, w2, nI (L.filter (wv_ij st kn am ra rb)).length, nI (wv_CF st kn am ra rb L 0 0 0 0 0 0 false false).length, pA, pB, sA, sB, sJ, dA, dB, va, au, ho, pl, ro, fp, sp, hi, tl, tx, wk, jo', cd', be, ch)) :
    wpX_compare post (nI rl, nI ll, nI lc, nI rc, nI wl, nI w1, w2, jl, cc, pA, pB, sA, sB, sJ, dA, dB, va, au, ho, pl, ro, fp, sp, hi, tl, tx, wk, jo, cd, be, ch) (nI ra) (nI rb) := by
  rw [wpX_compare, wpX_openRegion]
  exact ⟨L.length + 1, wv_xcmp hra hrb hlc hA hH hKa hKb L (L.length + 1) 0 0 0 0 0 0 false false jo cd [] [] (Nat.lt_succ_self _) (by omega) hro hLm (Nat.le_refl _) (Nat.le_refl _) (Nat.le_refl _) (Nat.le_refl _) (Nat.le_refl _) hJ hc (fun t ht => nomatch ht) wv_An_nil wv_An_nil k⟩
end
end
section
/-! X: the table of common subsequences and the choice -/
theorem wv_lcs_le {val : Nat → Int32} (u : List Int32) (v : List Nat) : wv_lcs val u v ≤ u.length := by
  induction u with
  | nil => exact Nat.le_refl _
  | cons a u ih =>
    have := wv_lcs_4 (wv_lcs_q (val := val) u) a v
    rw [List.length_cons]
    omega
/-- row r of the table is filled -/
def wv_Rw (va : Nat → Int32) (ws : List Int32) (js : List Nat) (be : Nat → Int32) (r : Nat) : Prop :=
  ∀ j, j ≤ js.length → be (r * 21 + j) = nI (wv_lcs va (ws.drop r) (js.drop j))
theorem wv_sub1 (x : Int32) : x + (-1) = x - 1 := (Int32.sub_eq_add_neg x 1).symm
theorem wv_m1lt : nI 0 - 1 < 0 := by decide
section
variable {rl ll lc rc wl w1 : Nat} {w2 jl cc pA pB sA sB sJ dA dB : Int32} {va au ho pl ro fp sp hi tl tx wk jo cd be ch : Nat → Int32} {ws : List Int32} {js : List Nat}
theorem wv_xbestFrom {post : Int32 → Prop} {i e : Nat} (hW : ws.length ≤ 10) (hJ : js.length ≤ 20) (hw : wv_At wk 0 ws) (hj : wv_An jo 0 js) (hb : ∀ x, x ∈ js → x < 150)
    (hi' : i < ws.length) (he : e < js.length) (h1 : wv_Rw va ws js be (i + 1)) (h2 : be (i * 21 + (e + 1)) = nI (wv_lcs va (ws.drop i) (js.drop (e + 1))))
    (k : post (nI (wv_lcs va (ws.drop i) (js.drop e)))) : wpX_bestFrom post (nI rl, nI ll, nI lc, nI rc, nI wl, nI w1, w2, jl, cc, pA, pB, sA, sB, sJ, dA, dB, va, au, ho, pl, ro, fp, sp, hi, tl, tx, wk, jo, cd, be, ch) (nI i) (nI e) := by
  obtain ⟨a, ha⟩ := wv_get_or ws hi'
  obtain ⟨b, hb'⟩ := wv_get_or js he
  have ea := wv_drop_cons ha
  have eb := wv_drop_cons hb'
  have hwi : wk i = a := by have := hw i a ha; rw [Nat.zero_add] at this; exact this
  have hje : jo e = nI b := by have := wv_An_get hj hb'; rw [Nat.zero_add] at this; exact this
  have hbl : b < 150 := hb b (List.mem_of_getElem? hb')
  have g1 : be ((i + 1) * 21 + e + 1) = nI (wv_lcs va (ws.drop (i + 1)) (js.drop (e + 1))) := h1 (e + 1) (by omega)
  have g2 : be ((i + 1) * 21 + e) = nI (wv_lcs va (ws.drop (i + 1)) (js.drop e)) := h1 e (by omega)
  have g3 : be (i * 21 + e + 1) = nI (wv_lcs va (ws.drop i) (js.drop (e + 1))) := h2
  have l2 : wv_lcs va (ws.drop (i + 1)) (js.drop e) < 2 ^ 31 := Nat.lt_of_le_of_lt (wv_lcs_le _ _) (by rw [List.length_drop]; omega)
  have l3 : wv_lcs va (ws.drop i) (js.drop (e + 1)) < 2 ^ 31 := Nat.lt_of_le_of_lt (wv_lcs_le _ _) (by rw [List.length_drop]; omega)
  have ec := wv_lcs_cc (val := va) a (ws.drop (i + 1)) b (js.drop (e + 1))
  rw [← ea, ← eb] at ec
  simp (disch := omega) only [wpX_bestFrom, hwi, hje, g1, g2, g3, forall_eq, nI_add, nI_1, wv_a0, wv_a2, wv_a3, wv_a4, wv_a5, wv_m6, wv_m10, wv_m21, wv_m150, pk_m1, nI_pred, pk_sub, nI_clamp, vp_in_nI, nI_leI, nI_ltI, nI_eq, wv_lt0, wv_ge0, true_implies, forall_const, not_true_eq_false, not_false_eq_true, false_implies, and_true, true_and, implies_true, and_self, if_true, if_false]
  refine ⟨fun z => ?_, fun z => ?_⟩
  · rw [if_pos z] at ec
    rw [ec] at k
    exact k
  · rw [if_neg z] at ec
    rw [ec] at k
    refine ⟨fun y => ?_, fun y => ?_⟩
    · rw [Nat.max_eq_right y] at k; exact k
    · rw [Nat.max_eq_left (by omega)] at k; exact k
theorem wv_xfill64 {post : SX → Prop} {J38 : Int32 → (Nat → Int32) → (Nat → Int32) → (Nat → Int32) → (Nat → Int32) → (Nat → Int32) → (Nat → Int32) → (Nat → Int32) → (Nat → Int32) → (Nat → Int32) → (Nat → Int32) → (Nat → Int32) → (Nat → Int32) → (Nat → Int32) → (Nat → Int32) → (Nat → Int32) → Prop} {i : Nat}
    (hW : ws.length ≤ 10) (hJ : js.length ≤ 20) (hw : wv_At wk 0 ws) (hj : wv_An jo 0 js) (hb : ∀ x, x ∈ js → x < 150) (hi' : i < ws.length) :
    ∀ (e n : Nat) (be : Nat → Int32), e ≤ js.length → e < n → (∀ r, i < r → r ≤ ws.length → wv_Rw va ws js be r) →
    (∀ j, e ≤ j → j ≤ js.length → be (i * 21 + j) = nI (wv_lcs va (ws.drop i) (js.drop j))) →
    (∀ be' : Nat → Int32, (∀ r, i ≤ r → r ≤ ws.length → wv_Rw va ws js be' r) → J38 (nI i - 1) va au ho pl ro fp sp hi tl tx wk jo cd be' ch) →
    wX_fillBest_64 post J38 (nI i) (nI rl) (nI ll) (nI lc) (nI rc) (nI wl) (nI w1) w2 jl cc pA pB sA sB sJ dA dB n (nI e - 1) va au ho pl ro fp sp hi tl tx wk jo cd be ch := by
  intro e
  induction e with
  | zero =>
    intro n be hel hn hr hc k
    cases n with
    | zero => exact absurd hn (Nat.not_lt_zero _)
    | succ n =>
      refine br_t wv_m1lt (nm_r (wv_sub1 _) (k be (fun r h1 h2 => ?_)))
      rcases Nat.lt_or_ge i r with z | z
      · exact hr r z h2
      · have : r = i := by omega
        subst this
        exact fun j hj' => hc j (Nat.zero_le _) hj'
  | succ e ih =>
    intro n be hel hn hr hc k
    cases n with
    | zero => exact absurd hn (Nat.not_lt_zero _)
    | succ n =>
      rw [nI_pred]
      refine br_f (nI_pos (by omega)) ?_
      refine wv_xbestFrom hW hJ hw hj hb hi' (by omega) (hr (i + 1) (by omega) (by omega)) (hc (e + 1) (Nat.le_refl _) (by omega)) ?_
      have eix : nI i * 21 + nI e = nI (i * 21 + e) := by rw [wv_m21, nI_add]
      refine And.intro (pk_in (i * 21 + e) 231 (by omega) eix) (nm_r (e' := upd be (i * 21 + e) (nI (wv_lcs va (ws.drop i) (js.drop e)))) (by rw [eix, nI_clamp (by omega)]) (nm_r (wv_sub1 _) ?_))
      refine ih n _ (by omega) (by omega) (fun r h1 h2 j hj' => ?_) (fun j h1 h2 => ?_) k
      · rw [pk_un (by omega)]
        exact hr r h1 h2 j hj'
      · by_cases z : j = e
        · subst z
          exact pk_us
        · rw [pk_un (by omega)]
          exact hc j (by omega) h2
theorem wv_xfill38 {post : SX → Prop} (hW : ws.length ≤ 10) (hJ : js.length ≤ 20) (hw : wv_At wk 0 ws) (hj : wv_An jo 0 js) (hb : ∀ x, x ∈ js → x < 150) (hjl : jl = nI js.length) :
    ∀ (d n : Nat) (be : Nat → Int32), d ≤ ws.length → d < n → (∀ r, d ≤ r → r ≤ ws.length → wv_Rw va ws js be r) →
    (∀ be' : Nat → Int32, (∀ r, r ≤ ws.length → wv_Rw va ws js be' r) → post (nI rl, nI ll, nI lc, nI rc, nI wl, nI w1, w2, jl, cc, pA, pB, sA, sB, sJ, dA, dB, va, au, ho, pl, ro, fp, sp, hi, tl, tx, wk, jo, cd, be', ch)) →
    wX_fillBest_38 post (nI rl) (nI ll) (nI lc) (nI rc) (nI wl) (nI w1) w2 jl cc pA pB sA sB sJ dA dB n (nI d - 1) va au ho pl ro fp sp hi tl tx wk jo cd be ch := by
  intro d
  induction d with
  | zero =>
    intro n be hd hn hr k
    cases n with
    | zero => exact absurd hn (Nat.not_lt_zero _)
    | succ n => exact br_t wv_m1lt (k be (fun r h => hr r (Nat.zero_le _) h))
  | succ d ih =>
    intro n be hd hn hr k
    cases n with
    | zero => exact absurd hn (Nat.not_lt_zero _)
    | succ n =>
      rw [nI_pred]
      have eix : nI d * 21 + jl = nI (d * 21 + js.length) := by rw [hjl, wv_m21, nI_add]
      refine br_f (nI_pos (by omega)) (And.intro (pk_in (d * 21 + js.length) 231 (by omega) eix) (nm_r (e' := upd be (d * 21 + js.length) 0) (by rw [eix, nI_clamp (by omega)]) (nm_r (e' := nI js.length - 1) (by rw [hjl]) ⟨js.length + 1, ?_⟩)))
      refine wv_xfill64 (i := d) hW hJ hw hj hb (by omega) js.length (js.length + 1) _ (Nat.le_refl _) (Nat.lt_succ_self _) (fun r h1 h2 j hj' => ?_) (fun j h1 h2 => ?_) (fun be' h => ?_)
      · rw [pk_un (by omega)]
        exact hr r h1 h2 j hj'
      · have : j = js.length := by omega
        subst this
        rw [pk_us, List.drop_length, wv_lcs_nil]
        exact nI_0.symm
      · exact ih n be' (by omega) (by omega) h k
theorem wv_xfill2 {post : SX → Prop} (hwl : ws.length = wl) (hW : ws.length ≤ 10) (hJ : js.length ≤ 20) (hw : wv_At wk 0 ws) (hj : wv_An jo 0 js) (hb : ∀ x, x ∈ js → x < 150) (hjl : jl = nI js.length)
    (k : ∀ be' : Nat → Int32, (∀ r, r ≤ ws.length → wv_Rw va ws js be' r) → post (nI rl, nI ll, nI lc, nI rc, nI wl, nI w1, w2, jl, cc, pA, pB, sA, sB, sJ, dA, dB, va, au, ho, pl, ro, fp, sp, hi, tl, tx, wk, jo, cd, be', ch)) :
    ∀ (d n j : Nat) (be : Nat → Int32), j + d = js.length + 1 → d < n → (∀ j', j' < j → be (ws.length * 21 + j') = 0) →
    wX_fillBest_2 post (nI rl) (nI ll) (nI lc) (nI rc) (nI wl) (nI w1) w2 jl cc pA pB sA sB sJ dA dB n (nI j) va au ho pl ro fp sp hi tl tx wk jo cd be ch := by
  intro d
  induction d with
  | zero =>
    intro n j be hd hn hr
    cases n with
    | zero => exact absurd hn (Nat.not_lt_zero _)
    | succ n =>
      have hlt : jl < nI j := by rw [hjl]; exact nI_lt (by omega) (by omega)
      refine br_t hlt (nm_r (e' := nI ws.length - 1) (by rw [hwl]) ⟨ws.length + 1, ?_⟩)
      refine wv_xfill38 hW hJ hw hj hb hjl ws.length (ws.length + 1) be (Nat.le_refl _) (Nat.lt_succ_self _) (fun r h1 h2 j' hj' => ?_) k
      have : r = ws.length := by omega
      subst this
      rw [hr j' (by omega), List.drop_length]
      exact nI_0.symm
  | succ d ih =>
    intro n j be hd hn hr
    cases n with
    | zero => exact absurd hn (Nat.not_lt_zero _)
    | succ n =>
      have hlt : ¬ jl < nI j := by rw [hjl]; exact nI_nlt (by omega) (by omega)
      have eix : nI wl * 21 + nI j = nI (ws.length * 21 + j) := by rw [hwl, wv_m21, nI_add]
      refine br_f hlt (And.intro (pk_in (ws.length * 21 + j) 231 (by omega) eix) (nm_r (e' := upd be (ws.length * 21 + j) 0) (by rw [eix, nI_clamp (by omega)]) (nm_r (nI_1 j) ?_)))
      refine ih n (j + 1) _ (by omega) (by omega) (fun j' h => ?_)
      by_cases z : j' = j
      · subst z
        exact pk_us
      · rw [pk_un (by omega)]
        exact hr j' (by omega)
theorem wv_xfill {post : SX → Prop} (hwl : ws.length = wl) (hW : ws.length ≤ 10) (hJ : js.length ≤ 20) (hw : wv_At wk 0 ws) (hj : wv_An jo 0 js) (hb : ∀ x, x ∈ js → x < 150) (hjl : jl = nI js.length)
    (k : ∀ be' : Nat → Int32, (∀ r, r ≤ ws.length → wv_Rw va ws js be' r) → post (nI rl, nI ll, nI lc, nI rc, nI wl, nI w1, w2, jl, cc, pA, pB, sA, sB, sJ, dA, dB, va, au, ho, pl, ro, fp, sp, hi, tl, tx, wk, jo, cd, be', ch)) : wpX_fillBest post (nI rl, nI ll, nI lc, nI rc, nI wl, nI w1, w2, jl, cc, pA, pB, sA, sB, sJ, dA, dB, va, au, ho, pl, ro, fp, sp, hi, tl, tx, wk, jo, cd, be, ch) := by
  rw [wpX_fillBest]
  exact ⟨js.length + 2, wv_xfill2 hwl hW hJ hw hj hb hjl k (js.length + 1) (js.length + 2) 0 be (by omega) (by omega) (fun j' h => absurd h (Nat.not_lt_zero _))⟩
theorem wv_xfind2 {post : Int32 → Prop} {a : Int32} (hJ : js.length ≤ 20) (hb : ∀ x, x ∈ js → x < 150) (hjl : jl = nI js.length) :
    ∀ (v : List Nat) (j n : Nat), j + v.length = js.length → v.length < n → wv_An jo j v → (∀ x, x ∈ v → x < 150) → post (nI (j + wv_fx va a v)) → wX_findInBase_2 post a (nI rl) (nI ll) (nI lc) (nI rc) (nI wl) (nI w1) w2 jl cc pA pB sA sB sJ dA dB va au ho pl ro fp sp hi tl tx wk jo cd be ch n (nI j) := by
  intro v
  induction v with
  | nil =>
    intro j n hd hn hv hm k
    cases n with
    | zero => exact absurd hn (Nat.not_lt_zero _)
    | succ n =>
      rw [List.length_nil] at hd
      have e : nI (j + wv_fx va a []) = jl := by rw [hjl]; exact congrArg nI hd
      rw [e] at k
      exact br_t (by rw [hjl]; exact nI_le (by omega) (by omega)) k
  | cons b v ih =>
    intro j n hd hn hv hm k
    cases n with
    | zero => exact absurd hn (Nat.not_lt_zero _)
    | succ n =>
      rw [List.length_cons] at hd hn
      obtain ⟨hv0, hv1⟩ := wv_An_cons.mp hv
      have hbl := hm b List.mem_cons_self
      have ec : (nI j).toNatClampNeg = j := nI_clamp (by omega)
      have ecb : (nI b).toNatClampNeg = b := nI_clamp (by omega)
      refine br_f (by rw [hjl]; exact nI_ge (by omega) (by omega)) (And.intro (vp_in_nI (by omega) (by omega)) ?_)
      rw [ec, hv0, ecb]
      refine And.intro (vp_in_nI hbl (by omega)) (br_c (fun z => ?_) (fun z => ?_))
      · rw [wv_fx, if_pos z] at k
        exact k
      · rw [wv_fx, if_neg z] at k
        refine nm_r (nI_1 j) (ih (j + 1) n (by omega) (by omega) hv1 (fun x hx => hm x (List.mem_cons_of_mem _ hx)) ?_)
        rw [show j + 1 + wv_fx va a v = j + (wv_fx va a v + 1) by omega]
        exact k
theorem wv_xchoose4 {post : SX → Prop} (hwl : ws.length = wl) (hW : ws.length ≤ 10) (hJ : js.length ≤ 20) (hw : wv_At wk 0 ws) (hj : wv_An jo 0 js) (hb : ∀ x, x ∈ js → x < 150) (hjl : jl = nI js.length)
    (hr : ∀ r, r ≤ ws.length → wv_Rw va ws js be r) :
    ∀ (u : List Int32) (i f n : Nat) (ch : Nat → Int32), ws.drop i = u → i + u.length = ws.length → f ≤ js.length → u.length < n →
    (∀ ch' : Nat → Int32, (∀ j, j < i → ch' j = ch j) → wv_At ch' i ((wv_ck va u (js.drop f)).map wv_oi) → post (nI rl, nI ll, nI lc, nI rc, nI wl, nI w1, w2, jl, cc, pA, pB, sA, sB, sJ, dA, dB, va, au, ho, pl, ro, fp, sp, hi, tl, tx, wk, jo, cd, be, ch')) →
    wX_chooseKept_4 post (nI rl) (nI ll) (nI lc) (nI rc) (nI wl) (nI w1) w2 jl cc pA pB sA sB sJ dA dB n (nI f) (nI i) va au ho pl ro fp sp hi tl tx wk jo cd be ch := by
  intro u
  induction u with
  | nil =>
    intro i f n ch hu hd hf hn k
    cases n with
    | zero => exact absurd hn (Nat.not_lt_zero _)
    | succ n =>
      rw [List.length_nil] at hd
      exact br_t (nI_le (by omega) (by omega)) (k ch (fun _ _ => rfl) wv_At_nil)
  | cons a u ih =>
    intro i f n ch hu hd hf hn k
    cases n with
    | zero => exact absurd hn (Nat.not_lt_zero _)
    | succ n =>
      rw [List.length_cons] at hd hn
      have hai : ws[i]? = some a := by
        have : (ws.drop i)[0]? = some a := by rw [hu]; rfl
        rw [List.getElem?_drop] at this
        exact this
      have hu' : ws.drop (i + 1) = u := by
        have := wv_drop_cons hai
        rw [hu] at this
        exact (List.cons.inj this).2.symm
      have hwi : wk i = a := by have := hw i a hai; rw [Nat.zero_add] at this; exact this
      have hlv : f + (js.drop f).length = js.length := by rw [List.length_drop]; omega
      have ec : (nI i).toNatClampNeg = i := nI_clamp (by omega)
      refine br_f (nI_ge (by omega) (by omega)) (And.intro (vp_in_nI (by omega) (by omega)) (nm_r (e' := upd ch i (-1)) (by rw [ec]) (And.intro (vp_in_nI (by omega) (by omega)) ?_)))
      rw [ec, hwi, wpX_findInBase]
      refine ⟨js.length + 1, wv_xfind2 hJ hb hjl (js.drop f) f (js.length + 1) hlv (by omega) (wv_An_drop f hj) (fun x hx => hb x (List.mem_of_mem_drop hx)) ?_⟩
      have hrf := hr i (by omega) f hf
      rw [hu] at hrf
      rcases wv_ck_cases (val := va) a u (js.drop f) with ⟨hfd, eck, _⟩ | ⟨b, w, hfd, elc, eck⟩ | ⟨b, w, hfd, elc, _, eck, _⟩
      · have efx := wv_fx_n _ hfd
        refine br_t (by rw [hjl]; exact nI_le (by omega) (by omega)) (nm_r (nI_1 i) (ih (i + 1) f n (upd ch i (-1)) hu' (by omega) hf (by omega) (fun ch' h1 h2 => k ch' (fun j hj' => ?_) ?_)))
        · rw [h1 j (by omega), pk_un (by omega)]
        · rw [eck, List.map_cons]
          exact wv_At_cons.mpr ⟨(h1 i (by omega)).trans pk_us, h2⟩
      all_goals
        obtain ⟨hg, hw'⟩ := wv_fx_s _ hfd
        have hlt := wv_lt hg
        rw [List.getElem?_drop] at hg
        have hw2 : w = js.drop (f + wv_fx va a (js.drop f) + 1) := hw'.trans (List.drop_drop.trans (congrArg (fun z => js.drop z) (by omega)))
        clear hw'
        generalize f + wv_fx va a (js.drop f) = at' at *
        have hat : at' < js.length := wv_lt hg
        have hrw := hr (i + 1) (by omega) (at' + 1) (by omega)
        rw [hu', ← hw2] at hrw
        have e1 : nI (i + 1) * 21 + nI at' + 1 = nI ((i + 1) * 21 + (at' + 1)) := by rw [wv_m21, nI_add, nI_1, Nat.add_assoc]
        have e2 : nI i * 21 + nI f = nI (i * 21 + f) := by rw [wv_m21, nI_add]
        have lw : wv_lcs va u w < 2 ^ 30 := Nat.lt_of_le_of_lt (wv_lcs_le _ _) (by omega)
        have lv : wv_lcs va (a :: u) (js.drop f) < 2 ^ 31 := Nat.lt_of_le_of_lt (wv_lcs_le _ _) (by rw [List.length_cons]; omega)
        refine br_f (by rw [hjl]; exact nI_ge (by omega) (by omega)) ?_
        rw [nI_1 i, e1, e2, nI_clamp (by omega), nI_clamp (by omega), hrw, hrf, nI_1 (wv_lcs va u w)]
        refine And.intro (vp_in_nI (by omega) (by omega)) (And.intro (vp_in_nI (by omega) (by omega)) ?_)
      · have hja : jo at' = nI b := by have := wv_An_get hj hg; rw [Nat.zero_add] at this; exact this
        refine br_t (congrArg nI elc) (And.intro (vp_in_nI (by omega) (by omega)) (And.intro (vp_in_nI (by omega) (by omega)) ?_))
        refine nm_r (e' := upd (upd ch i (-1)) i (nI b)) (by rw [nI_clamp (by omega), hja]) (nm_r (nI_1 at') (nm_e (ih (i + 1) (at' + 1) n _ hu' (by omega) (by omega) (by omega) (fun ch' h1 h2 => k ch' (fun j hj' => ?_) ?_))))
        · rw [h1 j (by omega), pk_un (by omega), pk_un (by omega)]
        · rw [eck, List.map_cons]
          rw [← hw2] at h2
          exact wv_At_cons.mpr ⟨(h1 i (by omega)).trans pk_us, h2⟩
      · refine br_f (fun z => elc ((nI_eq (by omega) (by omega)).mp z)) (nm_e (ih (i + 1) f n (upd ch i (-1)) hu' (by omega) hf (by omega) (fun ch' h1 h2 => k ch' (fun j hj' => ?_) ?_)))
        · rw [h1 j (by omega), pk_un (by omega)]
        · rw [eck, List.map_cons]
          exact wv_At_cons.mpr ⟨(h1 i (by omega)).trans pk_us, h2⟩
theorem wv_xchoose {post : SX → Prop} (hwl : ws.length = wl) (hW : ws.length ≤ 10) (hJ : js.length ≤ 20) (hw : wv_At wk 0 ws) (hj : wv_An jo 0 js) (hb : ∀ x, x ∈ js → x < 150) (hjl : jl = nI js.length)
    (hr : ∀ r, r ≤ ws.length → wv_Rw va ws js be r)
    (k : ∀ ch' : Nat → Int32, wv_At ch' 0 ((wv_ck va ws js).map wv_oi) → post (nI rl, nI ll, nI lc, nI rc, nI wl, nI w1, w2, jl, cc, pA, pB, sA, sB, sJ, dA, dB, va, au, ho, pl, ro, fp, sp, hi, tl, tx, wk, jo, cd, be, ch')) : wpX_chooseKept post (nI rl, nI ll, nI lc, nI rc, nI wl, nI w1, w2, jl, cc, pA, pB, sA, sB, sJ, dA, dB, va, au, ho, pl, ro, fp, sp, hi, tl, tx, wk, jo, cd, be, ch) := by
  rw [wpX_chooseKept]
  exact ⟨ws.length + 1, wv_xchoose4 hwl hW hJ hw hj hb hjl hr ws 0 0 (ws.length + 1) ch rfl (by omega) (Nat.zero_le _) (Nat.lt_succ_self _) (fun ch' _ h => k ch' h)⟩
end
end
section
/-! X: new lines, the text, the parents -/
theorem wv_nd_inj {l : List Nat} {i j x : Nat} (hn : l.Nodup) (h1 : l[i]? = some x) (h2 : l[j]? = some x) : i = j :=
  (List.getElem?_inj (wv_lt h1) hn).mp (h1.trans h2.symm)
theorem wv_split {l : List Nat} {j x : Nat} (h : l[j]? = some x) : l = l.take j ++ x :: l.drop (j + 1) := by
  rw [← wv_drop_cons h, List.take_append_drop]
theorem wv_k_some {L : List Nat} {j q : Nat} (hn : L.Nodup) (h : L[j]? = some q) : wv_k (some q) L = j + 1 := by
  have hl := wv_lt h
  have e := wv_split h
  have hq : ¬ q ∈ L.drop (j + 1) := by
    rw [e, List.nodup_append] at hn
    exact (List.nodup_cons.mp hn.2.1).1
  show wv_scan q 0 L 0 = j + 1
  rw [e, wv_scan_at _ _ hq, List.length_take]
  omega
theorem wv_Pl_ins {pl pl' : Nat → Int32} {l1 l2 : List Nat} (hR : wv_Ro (l1 ++ l2)) (hp : wv_Pl pl (l1 ++ l2))
    (h2 : ∀ j y, l2[j]? = some y → pl' y = nI (l1.length + j + 1)) (h1 : ∀ y, ¬ y ∈ l2 → pl' y = pl y) :
    wv_Pl (upd pl' (l1 ++ l2).length (nI l1.length)) (l1 ++ (l1 ++ l2).length :: l2) := by
  intro j y hj
  rcases Nat.lt_or_ge j l1.length with z | z
  · rw [List.getElem?_append_left z] at hj
    have hm : y ∈ l1 := List.mem_of_getElem? hj
    have hlt := hR.2 y (List.mem_append.mpr (Or.inl hm))
    have hn : ¬ y ∈ l2 := fun h => (List.nodup_append.mp hR.1).2.2 y hm y h rfl
    rw [pk_un (by omega), h1 y hn]
    exact hp j y (by rw [List.getElem?_append_left z]; exact hj)
  · rw [List.getElem?_append_right z] at hj
    obtain ⟨d, rfl⟩ : ∃ d, j = l1.length + d := ⟨j - l1.length, by omega⟩
    rw [Nat.add_sub_cancel_left] at hj
    cases d with
    | zero =>
      have e : (l1 ++ l2).length = y := Option.some.inj hj
      rw [← e, pk_us]
      rfl
    | succ d =>
      have hj' : l2[d]? = some y := hj
      have hlt := hR.2 y (List.mem_append.mpr (Or.inr (List.mem_of_getElem? hj')))
      rw [pk_un (by omega), h2 d y hj']
      rfl
section
variable {rl ll lc rc wl w1 : Nat} {w2 jl cc pA pB sA sB sJ dA dB : Int32} {va au ho pl ro fp sp hi tl tx wk jo cd be ch : Nat → Int32}
theorem wv_xmake12 {post : Int32 → SX → Prop} {v c : Int32} {k : Nat} {l2 : List Nat} {pl0 : Nat → Int32} (hlc : lc < 150) (hk : k + l2.length = lc) (hn : l2.Nodup) (hm : ∀ y, y ∈ l2 → y < lc) :
    ∀ (d n : Nat) (ro pl : Nat → Int32), d ≤ l2.length → d < n → (∀ j y, l2[j]? = some y → j < d → ro (k + j) = nI y) →
    (∀ j y, l2[j]? = some y → pl y = nI (if j < d then k + j else k + j + 1)) → (∀ y, ¬ y ∈ l2 → pl y = pl0 y) →
    (∀ pl' : Nat → Int32, (∀ j y, l2[j]? = some y → pl' y = nI (k + j + 1)) → (∀ y, ¬ y ∈ l2 → pl' y = pl0 y) →
      post (nI lc) (nI rl, nI ll, nI (lc + 1), nI rc, nI wl, nI w1, w2, jl, cc, pA, pB, sA, sB, sJ, dA, dB, upd va lc v, upd au lc c, upd ho lc 0, upd pl' lc (nI k), upd (wv_sh ro k d) k (nI lc), fp, sp, hi, tl, tx, wk, jo, cd, be, ch)) →
    wX_makeLine_12 post v c (nI k) (nI lc) (nI rl) (nI ll) (nI lc) (nI rc) (nI wl) (nI w1) w2 jl cc pA pB sA sB sJ dA dB n (nI (k + d)) va au ho pl ro fp sp hi tl tx wk jo cd be ch := by
  intro d
  induction d with
  | zero =>
    intro n ro pl hd hn' hro hp1 hp2 K
    cases n with
    | zero => exact absurd hn' (Nat.not_lt_zero _)
    | succ n =>
      have ek : (nI k).toNatClampNeg = k := nI_clamp (by omega)
      have el : (nI lc).toNatClampNeg = lc := nI_clamp (by omega)
      have hvk : vp_in (nI k) 150 := vp_in_nI (by omega) (by omega)
      have hvl : vp_in (nI lc) 150 := vp_in_nI hlc (by omega)
      refine br_t (nI_le (by omega) (by omega)) ?_
      rw [ek, el, nI_1]
      refine And.intro hvk (nm_e (And.intro hvl (nm_e (And.intro hvl (nm_e (And.intro hvl (nm_e (And.intro hvl (nm_e (nm_e ?_))))))))))
      exact K pl (fun j y hj => by rw [hp1 j y hj, if_neg (Nat.not_lt_zero _)]) hp2
  | succ d ih =>
    intro n ro pl hd hn' hro hp1 hp2 K
    cases n with
    | zero => exact absurd hn' (Nat.not_lt_zero _)
    | succ n =>
      obtain ⟨y, hy⟩ := wv_get_or l2 (by omega : d < l2.length)
      have hyl := hm y (List.mem_of_getElem? hy)
      have hry : ro (k + d) = nI y := hro d y hy (by omega)
      have e1 : nI (k + (d + 1)) - 1 = nI (k + d) := nI_pred (k + d)
      have e2 : nI (k + (d + 1)) + (-1) = nI (k + d) := pk_m1 (k + d)
      have e3 : (nI (k + d)).toNatClampNeg = k + d := nI_clamp (by omega)
      have e4 : (nI (k + (d + 1))).toNatClampNeg = k + d + 1 := nI_clamp (by omega)
      have e5 : (nI y).toNatClampNeg = y := nI_clamp (by omega)
      refine br_f (nI_ge (by omega) (by omega)) ?_
      rw [e1, e2, e3, e4, hry]
      refine And.intro (vp_in_nI (by omega) (by omega)) (nm_e (And.intro (vp_in_nI (by omega) (by omega)) (nm_e ?_)))
      rw [e5]
      refine And.intro (vp_in_nI (by omega) (by omega)) (nm_e (nm_e ?_))
      refine ih n (upd ro (k + d + 1) (nI y)) (upd pl y (nI (k + (d + 1)))) (by omega) (by omega) (fun j z hj hjd => ?_) (fun j z hj => ?_) (fun z hz => ?_) ?_
      · rw [pk_un (by omega)]
        exact hro j z hj (by omega)
      · by_cases hjd : j = d
        · subst hjd
          rw [hy] at hj
          rw [← Option.some.inj hj, pk_us, if_neg (Nat.lt_irrefl _)]
          rfl
        · have hne : z ≠ y := fun e => hjd (wv_nd_inj hn (e ▸ hj) hy)
          rw [pk_un hne, hp1 j z hj]
          by_cases h : j < d
          · rw [if_pos h, if_pos (by omega)]
          · rw [if_neg h, if_neg (by omega)]
      · have hne : z ≠ y := fun e => hz (e ▸ List.mem_of_getElem? hy)
        rw [pk_un hne]
        exact hp2 z hz
      · have e : wv_sh ro k (d + 1) = wv_sh (upd ro (k + d + 1) (nI y)) k d := by
          show wv_sh (upd ro (k + d + 1) (ro (k + d))) k d = _
          rw [hry]
        rw [e] at K
        exact K
theorem wv_xmake {post : Int32 → SX → Prop} {v c : Int32} {k : Nat} {l2 : List Nat} (hlc : lc < 150) (hk : k + l2.length = lc) (hn : l2.Nodup) (hm : ∀ y, y ∈ l2 → y < lc)
    (hro : wv_An ro k l2) (hpl : ∀ j y, l2[j]? = some y → pl y = nI (k + j))
    (K : ∀ pl' : Nat → Int32, (∀ j y, l2[j]? = some y → pl' y = nI (k + j + 1)) → (∀ y, ¬ y ∈ l2 → pl' y = pl y) →
      post (nI lc) (nI rl, nI ll, nI (lc + 1), nI rc, nI wl, nI w1, w2, jl, cc, pA, pB, sA, sB, sJ, dA, dB, upd va lc v, upd au lc c, upd ho lc 0, upd pl' lc (nI k), upd (wv_sh ro k l2.length) k (nI lc), fp, sp, hi, tl, tx, wk, jo, cd, be, ch)) :
    wpX_makeLine post (nI rl, nI ll, nI lc, nI rc, nI wl, nI w1, w2, jl, cc, pA, pB, sA, sB, sJ, dA, dB, va, au, ho, pl, ro, fp, sp, hi, tl, tx, wk, jo, cd, be, ch) v c (nI k) := by
  rw [wpX_makeLine]
  refine ⟨l2.length + 1, ?_⟩
  have := wv_xmake12 (post := post) (v := v) (c := c) (pl0 := pl) hlc hk hn hm l2.length (l2.length + 1) ro pl (Nat.le_refl _) (Nat.lt_succ_self _) (fun j y hj _ => wv_An_get hro hj)
    (fun j y hj => by rw [if_pos (wv_lt hj)]; exact hpl j y hj) (fun _ _ => rfl) K
  rw [hk] at this
  exact this
theorem wv_xweave {post : SX → Prop} {st : Nat → Nat → Bool} (hwl : wl ≤ 10) :
    ∀ (cl : List (Option Nat)) (n i : Nat) (p : Option Nat) (L : List Nat) (va au ho pl ro ch : Nat → Int32),
    cl.length < n → i + cl.length = wl → wv_Ro L → (∀ y, some y ∈ cl → y ∈ L) → L.length + cl.length ≤ 150 → wv_An ro 0 L → wv_Pl pl L →
    (∀ x, x < L.length → ∀ r, r < 16 → bt (ho x) r = st r x) → (∀ x, L.length ≤ x → ∀ r, st r x = false) → wv_At ch i (cl.map wv_oi) →
    ((i = 0 ∧ p = none) ∨ (0 < i ∧ ∃ q, q ∈ L ∧ p = some q ∧ ch (i - 1) = nI q)) →
    (∀ ho' pl' ch' : Nat → Int32, wv_Pl pl' (wv_we wk (nI rc) i p cl L ro va au).1 → (∀ x, x < (wv_we wk (nI rc) i p cl L ro va au).1.length → ∀ r, r < 16 → bt (ho' x) r = st r x) →
      (∀ j, j < i → ch' j = ch j) → wv_An ch' i (wv_we wk (nI rc) i p cl L ro va au).2.1 →
      post (nI rl, nI ll, nI (wv_we wk (nI rc) i p cl L ro va au).1.length, nI rc, nI wl, nI w1, w2, jl, cc, pA, pB, sA, sB, sJ, dA, dB, (wv_we wk (nI rc) i p cl L ro va au).2.2.2.1, (wv_we wk (nI rc) i p cl L ro va au).2.2.2.2, ho', pl', (wv_we wk (nI rc) i p cl L ro va au).2.2.1, fp, sp, hi, tl, tx, wk, jo, cd, be, ch')) →
    wX_weaveNewLines_2 post (nI rc) n (nI i) (nI rl) (nI ll) (nI L.length) (nI rc) (nI wl) (nI w1) w2 jl cc pA pB sA sB sJ dA dB va au ho pl ro fp sp hi tl tx wk jo cd be ch := by
  intro cl
  induction cl with
  | nil =>
    intro n i p L va au ho pl ro ch hn hi' hR hy hN hro hpl hH hS hch hp K
    cases n with
    | zero => exact absurd hn (Nat.not_lt_zero _)
    | succ n =>
      rw [List.length_nil] at hi'
      exact br_t (nI_le (by omega) (by omega)) (K ho pl ch hpl hH (fun _ _ => rfl) wv_An_nil)
  | cons o cl ih =>
    intro n i p L va au ho pl ro ch hn hi' hR hy hN hro hpl hH hS hch hp K
    cases n with
    | zero => exact absurd hn (Nat.not_lt_zero _)
    | succ n =>
      rw [List.length_cons] at hi' hn hN
      rw [List.map_cons] at hch
      obtain ⟨hc0, hc1⟩ := wv_At_cons.mp hch
      have ei : (nI i).toNatClampNeg = i := nI_clamp (by omega)
      refine br_f (nI_ge (by omega) (by omega)) (And.intro (vp_in_nI (by omega) (by omega)) ?_)
      rw [ei, hc0]
      cases o with
      | some y =>
        have hyL : y ∈ L := hy y List.mem_cons_self
        have hyl := hR.2 y hyL
        refine br_t (nI_pos' (by omega)) (nm_r (nI_1 i) (ih n (i + 1) (some y) L va au ho pl ro ch (by omega) (by omega) hR (fun z hz => hy z (List.mem_cons_of_mem _ hz)) (by omega) hro hpl hH hS hc1 (Or.inr ⟨by omega, y, hyL, rfl, hc0⟩) ?_))
        intro ho' pl' ch' k1 k2 k3 k4
        exact K ho' pl' ch' k1 k2 (fun j hj => k3 j (by omega)) (wv_An_cons.mpr ⟨(k3 i (by omega)).trans hc0, k4⟩)
      | none =>
        have hklt : wv_k p L ≤ L.length ∧ (¬ i = 0 → ∃ q j, p = some q ∧ ch (i - 1) = nI q ∧ q < L.length ∧ pl q = nI j ∧ wv_k p L = j + 1) := by
          rcases hp with ⟨h0, rfl⟩ | ⟨h0, q, hq, rfl, hcq⟩
          · exact ⟨Nat.zero_le _, fun z => absurd h0 z⟩
          · obtain ⟨j, hj⟩ := List.getElem?_of_mem hq
            have hk := wv_k_some hR.1 hj
            have hjl := wv_lt hj
            exact ⟨by omega, fun _ => ⟨q, j, rfl, hcq, hR.2 q hq, hpl j q hj, hk⟩⟩
        obtain ⟨hkL, hkq⟩ := hklt
        have hm1 : ¬ (0 : Int32) ≤ wv_oi none := by decide
        refine br_f hm1 ?_
        have eL : L.take (wv_k p L) ++ L.drop (wv_k p L) = L := List.take_append_drop _ _
        have el1 : (L.take (wv_k p L)).length = wv_k p L := by rw [List.length_take]; omega
        have el2 : (L.drop (wv_k p L)).length = L.length - wv_k p L := List.length_drop
        -- the join, for either way to the place
        have key : wX_weaveNewLines_42 post (wX_weaveNewLines_2 post (nI rc) n) (nI rc) (nI i) (nI (wv_k p L)) (nI rl) (nI ll) (nI L.length) (nI rc) (nI wl) (nI w1) w2 jl cc pA pB sA sB sJ dA dB va au ho pl ro fp sp hi tl tx wk jo cd be ch := by
          rw [wX_weaveNewLines_42, ei]
          refine And.intro (vp_in_nI (by omega) (by omega)) ?_
          refine wv_xmake (lc := L.length) (l2 := L.drop (wv_k p L)) (by omega) (by rw [el2]; omega) ?_ (fun y hy => hR.2 y (List.mem_of_mem_drop hy)) (wv_An_drop _ hro) (fun j y hj => ?_) (fun pl' h1 h2 => ?_)
          · exact (List.nodup_append.mp (eL.symm ▸ hR.1 : (L.take (wv_k p L) ++ L.drop (wv_k p L)).Nodup)).2.1
          · rw [List.getElem?_drop] at hj
            exact hpl _ y hj
          · refine And.intro (vp_in_nI (by omega) (by omega)) (nm_e (nm_r (nI_1 i) ?_))
            have hR' : wv_Ro (L.take (wv_k p L) ++ L.length :: L.drop (wv_k p L)) := by
              have := wv_Ro_ins (l1 := L.take (wv_k p L)) (l2 := L.drop (wv_k p L)) (eL.symm ▸ hR)
              rw [eL] at this
              exact this
            have hlen : (L.take (wv_k p L) ++ L.length :: L.drop (wv_k p L)).length = L.length + 1 := by
              rw [List.length_append, List.length_cons, el1, el2]; omega
            have hro' : wv_An (upd (wv_sh ro (wv_k p L) (L.length - wv_k p L)) (wv_k p L) (nI L.length)) 0 (L.take (wv_k p L) ++ L.length :: L.drop (wv_k p L)) := by
              have := wv_sh_An (l := L.take (wv_k p L)) (m := L.drop (wv_k p L)) (eL.symm ▸ hro) L.length
              rw [el1, el2] at this
              exact this
            have hpl' : wv_Pl (upd pl' L.length (nI (wv_k p L))) (L.take (wv_k p L) ++ L.length :: L.drop (wv_k p L)) := by
              have := wv_Pl_ins (pl := pl) (pl' := pl') (l1 := L.take (wv_k p L)) (l2 := L.drop (wv_k p L)) (eL.symm ▸ hR) (eL.symm ▸ hpl) (by rw [el1]; exact h1) h2
              rw [eL, el1] at this
              exact this
            have hmem : ∀ z, z ∈ L → z ∈ L.take (wv_k p L) ++ L.length :: L.drop (wv_k p L) := by
              intro z hz
              rw [← eL] at hz
              rcases List.mem_append.mp hz with h | h
              · exact List.mem_append.mpr (Or.inl h)
              · exact List.mem_append.mpr (Or.inr (List.mem_cons_of_mem _ h))
            rw [← hlen, el2]
            refine ih n (i + 1) (some L.length) _ _ _ _ _ _ _ (by omega) (by omega) hR' (fun z hz => hmem z (hy z (List.mem_cons_of_mem _ hz))) (by rw [hlen]; omega) hro' hpl' ?_ ?_ (wv_At_upd hc1 (Or.inl (by omega))) (Or.inr ⟨by omega, L.length, List.mem_append.mpr (Or.inr List.mem_cons_self), rfl, pk_us⟩) ?_
            · intro x hx r hr
              rw [hlen] at hx
              by_cases z : x = L.length
              · subst z
                rw [pk_us, b_0, hS _ (Nat.le_refl _)]
              · rw [pk_un z]
                exact hH x (by omega) r hr
            · intro x hx r
              rw [hlen] at hx
              exact hS x (by omega) r
            · intro ho' pl'' ch' k1 k2 k3 k4
              exact K ho' pl'' ch' k1 k2 (fun j hj => (k3 j (by omega)).trans (pk_un (by omega))) (wv_An_cons.mpr ⟨(k3 i (by omega)).trans pk_us, k4⟩)
        refine br_c (fun z => ?_) (fun z => ?_)
        · have h0 : i = 0 := by rw [← nI_0] at z; exact (nI_eq (by omega) (by omega)).mp z
          have hk0 : wv_k p L = 0 := by
            rcases hp with ⟨_, rfl⟩ | ⟨h, _⟩
            · rfl
            · omega
          rw [hk0] at key
          exact key
        · have h0 : ¬ i = 0 := fun e => z (by rw [e]; exact nI_0)
          obtain ⟨q, j, _, hcq, hql, hpq, hk⟩ := hkq h0
          obtain ⟨i', rfl⟩ : ∃ i', i = i' + 1 := ⟨i - 1, by omega⟩
          rw [Nat.add_sub_cancel] at hcq
          rw [nI_pred, nI_clamp (n := i') (by omega), hcq, nI_clamp (n := q) (by omega), hpq, nI_1 j, ← hk]
          exact And.intro (vp_in_nI (by omega) (by omega)) (And.intro (vp_in_nI (by omega) (by omega)) key)
theorem wv_xtext {post : SX → Prop} (hwl : wl ≤ 10) (hrc : rc < 16) :
    ∀ (T : List Nat) (n i : Nat) (ho tx : Nat → Int32), T.length < n → i + T.length = wl → wv_An ch i T → (∀ t, t ∈ T → t < 150) →
    (∀ ho' tx' : Nat → Int32, (∀ x r, r < 16 → bt (ho' x) r = (bt (ho x) r || (decide (r = rc) && decide (x ∈ T)))) → (∀ j, j < rc * 10 + i → tx' j = tx j) → wv_An tx' (rc * 10 + i) T → post (nI rl, nI ll, nI lc, nI rc, nI wl, nI w1, w2, jl, cc, pA, pB, sA, sB, sJ, dA, dB, va, au, ho', pl, ro, fp, sp, hi, tl, tx', wk, jo, cd, be, ch)) →
    wX_recordText_12 post (nI rc) (nI rl) (nI ll) (nI lc) (nI rc) (nI wl) (nI w1) w2 jl cc pA pB sA sB sJ dA dB n (nI i) va au ho pl ro fp sp hi tl tx wk jo cd be ch := by
  intro T
  induction T with
  | nil =>
    intro n i ho tx hn hi' hT hm K
    cases n with
    | zero => exact absurd hn (Nat.not_lt_zero _)
    | succ n =>
      rw [List.length_nil] at hi'
      refine br_t (nI_le (by omega) (by omega)) (K ho tx (fun x r _ => ?_) (fun _ _ => rfl) wv_An_nil)
      rw [decide_eq_false (List.not_mem_nil), Bool.and_false, Bool.or_false]
  | cons t T ih =>
    intro n i ho tx hn hi' hT hm K
    cases n with
    | zero => exact absurd hn (Nat.not_lt_zero _)
    | succ n =>
      rw [List.length_cons] at hi' hn
      obtain ⟨h0, h1⟩ := wv_An_cons.mp hT
      have htl := hm t List.mem_cons_self
      have ei : (nI i).toNatClampNeg = i := nI_clamp (by omega)
      have et : (nI t).toNatClampNeg = t := nI_clamp (by omega)
      have ex : nI rc * 10 + nI i = nI (rc * 10 + i) := by rw [wv_m10, nI_add]
      have exc : (nI (rc * 10 + i)).toNatClampNeg = rc * 10 + i := nI_clamp (by omega)
      have hvt : vp_in (nI t) 150 := vp_in_nI htl (by omega)
      refine br_f (nI_ge (by omega) (by omega)) (And.intro (vp_in_nI (by omega) (by omega)) (nm_r (e' := nI t) (by rw [ei]; exact h0) ?_))
      rw [ex, exc, et]
      refine And.intro (vp_in_nI (by omega) (by omega)) (nm_e (And.intro hvt (And.intro hvt (nm_e (nm_r (nI_1 i) ?_)))))
      refine ih n (i + 1) _ _ (by omega) (by omega) h1 (fun z hz => hm z (List.mem_cons_of_mem _ hz)) (fun ho' tx' k1 k2 k3 => ?_)
      refine K ho' tx' (fun x r hr => ?_) (fun j hj => (k2 j (by omega)).trans (pk_un (by omega))) (wv_An_cons.mpr ⟨(k2 (rc * 10 + i) (by omega)).trans pk_us, ?_⟩)
      · rw [k1 x r hr]
        by_cases z : x = t
        · subst z
          rw [pk_us, b_or, wv_sh1 (by omega) (by omega), decide_eq_true (List.mem_cons_self (a := x) (l := T)), Bool.and_true]
          cases bt (ho x) r <;> cases decide (r = rc) <;> rfl
        · rw [pk_un z]
          refine congrArg (fun b => (bt (ho x) r || (decide (r = rc) && b))) (decide_eq_decide.mpr ⟨fun h => List.mem_cons_of_mem _ h, fun h => (List.mem_cons.mp h).resolve_left z⟩)
      · exact k3
theorem wv_xparents {post : SX → Prop} {o : Nat} (hrc : rc < 16) (hw1 : w1 < 16) (ho' : o < 16)
    (K : post (nI rl, nI ll, nI lc, nI (rc + 1), nI wl, nI rc, (-1), jl, cc, pA, pB, sA, sB, sJ, dA, dB, va, au, ho, pl, ro, upd fp rc (nI w1), upd sp rc w2, upd hi rc ((hi w1 ||| hi o) ||| ((1 : Int32) <<< (nI rc &&& 31))), tl, tx, wk, jo, cd, be, ch)) :
    wpX_recordParents post (nI rl, nI ll, nI lc, nI rc, nI wl, nI w1, w2, jl, cc, pA, pB, sA, sB, sJ, dA, dB, va, au, ho, pl, ro, fp, sp, hi, tl, tx, wk, jo, cd, be, ch) (nI rc) (nI o) := by
  simp (disch := omega) only [wpX_recordParents, forall_eq, nI_add, nI_1, wv_a0, wv_a2, wv_a3, wv_a4, wv_a5, wv_m6, wv_m10, wv_m21, wv_m150, pk_m1, nI_pred, pk_sub, nI_clamp, vp_in_nI, nI_leI, nI_ltI, nI_eq, wv_lt0, wv_ge0, true_implies, forall_const, not_true_eq_false, not_false_eq_true, false_implies, and_true, true_and, implies_true, and_self, if_true, if_false]
  exact K
end
end
section
/-! Y: histories and joint texts -/
def wv_G (rc : Nat) (kn : Nat → Nat → Bool) (fp sp : Nat → Int32) : Prop :=
  (∀ k, kn 0 k = decide (k = 0)) ∧
  ∀ r, 0 < r → r < rc → ∃ f s, f < r ∧ s < r ∧ fp r = nI f ∧ ((sp r = -1 ∧ s = f) ∨ sp r = nI s) ∧ ∀ k, kn r k = (decide (k = r) || kn f k || kn s k)
def wv_Hq (kn : Nat → Nat → Bool) (r q : Nat) (m : Int32) : Prop :=
  ∀ k, k < 16 → (kn r k = true ↔ (q < k ∧ bt m k = true) ∨ ∃ b, b ≤ q ∧ bt m b = true ∧ kn b k = true)
theorem wv_Hq_0 {kn : Nat → Nat → Bool} {r : Nat} {m : Int32} (h0 : ∀ k, kn 0 k = decide (k = 0)) (h : wv_Hq kn r 0 m) {k : Nat} (hk : k < 16) : bt m k = kn r k := by
  rw [Bool.eq_iff_iff, h k hk]
  constructor
  · intro hb
    by_cases z : k = 0
    · subst z
      exact Or.inr ⟨0, Nat.le_refl _, hb, by rw [h0]; rfl⟩
    · exact Or.inl ⟨by omega, hb⟩
  · rintro (⟨_, hb⟩ | ⟨b, hb0, hb, hk0⟩)
    · exact hb
    · have e : b = 0 := by omega
      subst e
      rw [h0, decide_eq_true_eq] at hk0
      rw [hk0]; exact hb
theorem wv_Hq_s {kn : Nat → Nat → Bool} {r : Nat} (hr : r < 16) : wv_Hq kn r r ((1 : Int32) <<< (nI r &&& 31)) := by
  intro k hk
  rw [wv_sh1 (by omega) (by omega), decide_eq_true_eq]
  constructor
  · intro h
    exact Or.inr ⟨r, Nat.le_refl _, by rw [wv_sh1 (by omega) (by omega)]; exact decide_eq_true rfl, h⟩
  · rintro (⟨h1, h2⟩ | ⟨b, hb0, hb, h⟩)
    · omega
    · rw [wv_sh1 (by omega) (by omega), decide_eq_true_eq] at hb
      rw [← hb]; exact h
theorem wv_Hq_n {kn : Nat → Nat → Bool} {r q : Nat} {m : Int32} (h : wv_Hq kn r (q + 1) m) (hb : bt m (q + 1) = false) : wv_Hq kn r q m := by
  intro k hk
  rw [h k hk]
  constructor
  · rintro (⟨h1, h2⟩ | ⟨b, h1, h2, h3⟩)
    · exact Or.inl ⟨by omega, h2⟩
    · by_cases e : b = q + 1
      · subst e
        rw [hb] at h2
        cases h2
      · exact Or.inr ⟨b, by omega, h2, h3⟩
  · rintro (⟨h1, h2⟩ | ⟨b, h1, h2, h3⟩)
    · by_cases e : k = q + 1
      · subst e
        rw [hb] at h2
        cases h2
      · exact Or.inl ⟨by omega, h2⟩
    · exact Or.inr ⟨b, by omega, h2, h3⟩
theorem wv_Hq_y {kn : Nat → Nat → Bool} {r q f s : Nat} {m m' : Int32} (h : wv_Hq kn r (q + 1) m) (hq : q + 1 < 16) (hb : bt m (q + 1) = true) (hf : f ≤ q) (hs : s ≤ q)
    (hm : ∀ k, k < 16 → bt m' k = (bt m k || decide (k = f) || decide (k = s))) (hk' : ∀ k, kn (q + 1) k = (decide (k = q + 1) || kn f k || kn s k)) : wv_Hq kn r q m' := by
  have hm1 : ∀ k, k < 16 → bt m k = true → bt m' k = true := fun k hk e => by rw [hm k hk, e, Bool.true_or, Bool.true_or]
  have hmf : bt m' f = true := by rw [hm f (by omega), decide_eq_true rfl, Bool.or_true, Bool.true_or]
  have hms : bt m' s = true := by rw [hm s (by omega), decide_eq_true (rfl : s = s), Bool.or_true]
  intro k hk
  rw [h k hk]
  constructor
  · rintro (⟨h1, h2⟩ | ⟨b, h1, h2, h3⟩)
    · exact Or.inl ⟨by omega, hm1 k hk h2⟩
    · by_cases e : b = q + 1
      · subst e
        rw [hk', Bool.or_eq_true, Bool.or_eq_true, decide_eq_true_eq] at h3
        rcases h3 with (h3 | h3) | h3
        · exact Or.inl ⟨by omega, hm1 k hk (by rw [h3]; exact hb)⟩
        · exact Or.inr ⟨f, hf, hmf, h3⟩
        · exact Or.inr ⟨s, hs, hms, h3⟩
      · exact Or.inr ⟨b, by omega, hm1 b (by omega) h2, h3⟩
  · rintro (⟨h1, h2⟩ | ⟨b, h1, h2, h3⟩)
    · rw [hm k hk, decide_eq_false (by omega : ¬ k = f), decide_eq_false (by omega : ¬ k = s), Bool.or_false, Bool.or_false] at h2
      by_cases e : k = q + 1
      · exact Or.inr ⟨q + 1, Nat.le_refl _, hb, by rw [hk', decide_eq_true e, Bool.true_or, Bool.true_or]⟩
      · exact Or.inl ⟨by omega, h2⟩
    · rw [hm b (by omega), Bool.or_eq_true, Bool.or_eq_true, decide_eq_true_eq, decide_eq_true_eq] at h2
      rcases h2 with (h2 | h2) | h2
      · exact Or.inr ⟨b, by omega, h2, h3⟩
      · subst h2
        exact Or.inr ⟨q + 1, Nat.le_refl _, hb, by rw [hk', h3, Bool.or_true, Bool.true_or]⟩
      · subst h2
        exact Or.inr ⟨q + 1, Nat.le_refl _, hb, by rw [hk', h3, Bool.or_true]⟩
section
variable {rl ll rc lc wl w1 : Nat} {w2 jl : Int32} {fp sp sd va au ro wk jo tk : Nat → Int32} {st kn : Nat → Nat → Bool} {am : Nat → Nat}
theorem wv_yrev0 {post : Int32 → Prop} {r : Int32} (hrc : rc ≤ 16) (h : ¬ ∃ k, k < rc ∧ r = nI k) (hp : post 0) : wpY_isRevision post (nI rl, nI ll, nI rc, nI lc, nI wl, nI w1, w2, jl, fp, sp, sd, va, au, ro, wk, jo, tk) r := by
  rw [wpY_isRevision]
  exact wv_rev hrc (fun _ => hp) (fun k hk e => absurd ⟨k, hk, e⟩ h)
theorem wv_yrev1 {post : Int32 → Prop} {k : Nat} (hrc : rc ≤ 16) (h : k < rc) (hp : post 1) : wpY_isRevision post (nI rl, nI ll, nI rc, nI lc, nI wl, nI w1, w2, jl, fp, sp, sd, va, au, ro, wk, jo, tk) (nI k) := by
  rw [wpY_isRevision]
  exact wv_rev hrc (fun z => absurd ⟨k, h, rfl⟩ z) (fun _ _ _ => hp)
theorem wv_yhist25 {post : Int32 → Prop} {a r : Nat} (hrc : rc ≤ 16) (hG : wv_G rc kn fp sp) (ha : a < 16) (hp : post (wv_b (kn r a))) :
    ∀ (q n : Nat) (m : Int32), q < rc → q < n → wv_Hq kn r q m → wY_inHistory_25 post (nI a) (nI rl) (nI ll) (nI rc) (nI lc) (nI wl) (nI w1) w2 jl fp sp sd va au ro wk jo tk n m (nI q) := by
  intro q
  induction q with
  | zero =>
    intro n m hq hn hH
    cases n with
    | zero => exact absurd hn (Nat.not_lt_zero _)
    | succ n =>
      refine br_t (by decide) ?_
      rw [wv_bit _ (by omega), wv_Hq_0 hG.1 hH ha]
      refine wv_b_br1 (fun e => ?_) (fun e => ?_) <;> (rw [e] at hp; exact hp)
  | succ q ih =>
    intro n m hq hn hH
    cases n with
    | zero => exact absurd hn (Nat.not_lt_zero _)
    | succ n =>
      obtain ⟨f, s, hf, hs, efp, esp, ekn⟩ := hG.2 (q + 1) (by omega) hq
      have ec : (nI (q + 1)).toNatClampNeg = q + 1 := nI_clamp (by omega)
      have hv : vp_in (nI (q + 1)) 16 := vp_in_nI (by omega) (by omega)
      refine br_f (nI_nle (by omega) (by omega)) ?_
      rw [wv_bit _ (by omega : q + 1 < 32), ec, efp, pk_m1]
      refine wv_b_br1 (fun e => And.intro hv (And.intro hv ?_)) (fun e => nm_e (ih n m (by omega) (by omega) (wv_Hq_n hH e)))
      rcases esp with ⟨e1, e2⟩ | e1
      · rw [e1]
        refine br_t rfl (nm_e (nm_e (ih n _ (by omega) (by omega) (wv_Hq_y hH (by omega) e (by omega) (by omega) (fun k hk => ?_) ekn))))
        rw [b_or, b_or, wv_sh1 (by omega) (by omega), wv_sh1 (by omega) (by omega), e2]
        by_cases z : k = q + 1
        · subst z
          rw [e, Bool.true_or, Bool.true_or, Bool.true_or]
        · rw [decide_eq_false z, Bool.or_false]
          cases bt m k <;> cases decide (k = f) <;> rfl
      · rw [e1]
        refine br_f (wv_nI_ne (by omega) wv_neg1) (And.intro hv (nm_e (nm_e (ih n _ (by omega) (by omega) (wv_Hq_y hH (by omega) e (by omega) (by omega) (fun k hk => ?_) ekn)))))
        rw [b_or, b_or, wv_sh1 (by omega) (by omega), wv_sh1 (by omega) (by omega), Bool.or_assoc]
theorem wv_yhist {post : Int32 → Prop} {a r : Nat} (hrc : rc ≤ 16) (hG : wv_G rc kn fp sp) (ha : a < rc) (hr : r < rc) (hp : post (wv_b (kn r a))) : wpY_inHistory post (nI rl, nI ll, nI rc, nI lc, nI wl, nI w1, w2, jl, fp, sp, sd, va, au, ro, wk, jo, tk) (nI a) (nI r) := by
  rw [wpY_inHistory]
  refine wv_yrev1 hrc ha (br_f (by decide) ?_)
  refine wv_yrev1 hrc hr (br_f (by decide) (nm_e ⟨r + 1, ?_⟩))
  exact wv_yhist25 hrc hG (by omega) hp r (r + 1) _ hr (Nat.lt_succ_self _) (wv_Hq_s (by omega))
theorem wv_yinj {post : Int32 → Prop} {a b x : Nat} (hrc : rc ≤ 16) (hG : wv_G rc kn fp sp) (ha : a < rc) (hb : b < rc) (hx : x < 150)
    (hS : ∀ r, r < 16 → sd (r * 150 + x) = wv_b (st r x)) (hA : au x = nI (am x)) (hA2 : am x < rc)
    (hp : post (wv_b (wv_ij st kn am a b x))) : wpY_inJoint post (nI rl, nI ll, nI rc, nI lc, nI wl, nI w1, w2, jl, fp, sp, sd, va, au, ro, wk, jo, tk) (nI a) (nI b) (nI x) := by
  have e1 : nI a * 150 + nI x = nI (a * 150 + x) := by rw [wv_m150, nI_add]
  have e2 : nI b * 150 + nI x = nI (b * 150 + x) := by rw [wv_m150, nI_add]
  have c1 : (nI (a * 150 + x)).toNatClampNeg = a * 150 + x := nI_clamp (by omega)
  have c2 : (nI (b * 150 + x)).toNatClampNeg = b * 150 + x := nI_clamp (by omega)
  have cx : (nI x).toNatClampNeg = x := nI_clamp (by omega)
  rw [wpY_inJoint, e1, e2, c1, c2, hS a (by omega), hS b (by omega)]
  refine And.intro (vp_in_nI (by omega) (by omega)) (nm_e (And.intro (vp_in_nI (by omega) (by omega)) (nm_e ?_)))
  unfold wv_ij at hp
  cases h1 : st a x with
  | false =>
    rw [if_neg (by rw [h1]; decide)] at hp
    refine br_t rfl ?_
    rw [wY_inJoint_40, cx, hA]
    refine br_t rfl ?_
    cases h2 : st b x with
    | false =>
      rw [h2] at hp
      exact br_t rfl hp
    | true =>
      rw [h2, Bool.true_and] at hp
      refine br_f (by decide) (And.intro (vp_in_nI hx (by omega)) (wv_yhist hrc hG hA2 ha ?_))
      refine wv_b_br (fun e => ?_) (fun e => ?_) <;> (rw [e] at hp; exact hp)
  | true =>
    rw [if_pos h1] at hp
    refine br_f (by decide) ?_
    cases h2 : st b x with
    | false =>
      rw [h2, Bool.false_or] at hp
      refine br_t rfl ?_
      rw [wY_inJoint_40, cx, hA]
      refine br_f (by decide) (And.intro (vp_in_nI hx (by omega)) (wv_yhist hrc hG hA2 hb ?_))
      refine wv_b_br (fun e => ?_) (fun e => ?_) <;> (rw [e] at hp; exact hp)
    | true =>
      rw [h2, Bool.true_or] at hp
      exact br_f (by decide) hp
theorem wv_ylist26 {post : Int32 → SY → Prop} {a b : Nat} (hrc : rc ≤ 16) (hG : wv_G rc kn fp sp) (ha : a < rc) (hb : b < rc) (hlc : lc ≤ 150)
    (hS : ∀ r, r < 16 → ∀ x, x < 150 → sd (r * 150 + x) = wv_b (st r x)) (hA : ∀ x, x < lc → au x = nI (am x) ∧ am x < rc) :
    ∀ (l : List Nat) (n i : Nat) (JL : List Nat) (jo : Nat → Int32), l.length < n → i + l.length = lc → wv_An ro i l → (∀ x, x ∈ l → x < lc) → wv_An jo 0 JL →
    (JL ++ l.filter (wv_ij st kn am a b)).length ≤ 20 →
    (∀ jo' : Nat → Int32, wv_An jo' 0 (JL ++ l.filter (wv_ij st kn am a b)) → post (nI (JL ++ l.filter (wv_ij st kn am a b)).length) (nI rl, nI ll, nI rc, nI lc, nI wl, nI w1, w2, nI (JL ++ l.filter (wv_ij st kn am a b)).length, fp, sp, sd, va, au, ro, wk, jo', tk)) →
    wY_listJoint_26 post (nI a) (nI b) (nI rl) (nI ll) (nI rc) (nI lc) (nI wl) (nI w1) w2 n (nI i) (nI JL.length) fp sp sd va au ro wk jo tk := by
  intro l
  induction l with
  | nil =>
    intro n i JL jo hn hi' hro hm hj hJ k
    cases n with
    | zero => exact absurd hn (Nat.not_lt_zero _)
    | succ n =>
      rw [List.length_nil] at hi'
      rw [List.filter_nil, List.append_nil] at k
      exact br_t (nI_le (by omega) (by omega)) (k jo hj)
  | cons x l ih =>
    intro n i JL jo hn hi' hro hm hj hJ k
    cases n with
    | zero => exact absurd hn (Nat.not_lt_zero _)
    | succ n =>
      rw [List.length_cons] at hi' hn
      obtain ⟨h0, h1⟩ := wv_An_cons.mp hro
      have hxl := hm x List.mem_cons_self
      have hm' : ∀ y, y ∈ l → y < lc := fun y hy => hm y (List.mem_cons_of_mem _ hy)
      have ei : (nI i).toNatClampNeg = i := nI_clamp (by omega)
      have hJl : JL.length ≤ 20 := by rw [List.length_append] at hJ; omega
      refine br_f (nI_ge (by omega) (by omega)) ?_
      refine pk_le 20 JL.length (fun z => ?_) (fun z => ?_)
      · have eij : wv_ij st kn am a b x = false := by
          cases e : wv_ij st kn am a b x with
          | false => rfl
          | true =>
            rw [List.filter_cons_of_pos e, List.length_append, List.length_cons] at hJ
            omega
        rw [List.filter_cons_of_neg (by rw [eij]; decide)] at hJ k
        exact nm_r (nI_1 i) (ih n (i + 1) JL jo (by omega) (by omega) h1 hm' hj hJ k)
      · rw [ei, h0]
        refine And.intro (vp_in_nI (by omega) (by omega)) (wv_yinj hrc hG ha hb (by omega) (fun r hr => hS r hr x (by omega)) (hA x hxl).1 (hA x hxl).2 ?_)
        refine wv_b_br (fun e => ?_) (fun e => ?_)
        · rw [List.filter_cons_of_neg (by rw [e]; decide)] at hJ k
          exact nm_r (nI_1 i) (ih n (i + 1) JL jo (by omega) (by omega) h1 hm' hj hJ k)
        · have esn : ∀ m : List Nat, (JL ++ [x]) ++ m = JL ++ x :: m := fun m => by rw [List.append_assoc, List.singleton_append]
          have els : (JL ++ [x]).length = JL.length + 1 := by rw [List.length_append]; rfl
          rw [List.filter_cons_of_pos e, ← esn] at hJ k
          have hj' : wv_An (upd jo JL.length (nI x)) 0 (JL ++ [x]) := by
            have := wv_An_snoc (x := x) hj
            rw [Nat.zero_add] at this
            exact this
          have := ih n (i + 1) (JL ++ [x]) (upd jo JL.length (nI x)) (by omega) (by omega) h1 hm' hj' hJ k
          rw [els] at this
          refine nm_r (nI_1 JL.length) (And.intro (vp_in_nI (by omega) (by omega)) (And.intro (vp_in_nI (by omega) (by omega)) (nm_r (e' := upd jo JL.length (nI x)) (by rw [nI_clamp (by omega)]) (nm_r (nI_1 i) this))))
theorem wv_ylist0 {post : Int32 → SY → Prop} {a b : Int32} (hrc : rc ≤ 16) (h : (¬ ∃ k, k < rc ∧ a = nI k) ∨ (¬ ∃ k, k < rc ∧ b = nI k)) (hp : post (-2) (nI rl, nI ll, nI rc, nI lc, nI wl, nI w1, w2, jl, fp, sp, sd, va, au, ro, wk, jo, tk)) : wpY_listJoint post (nI rl, nI ll, nI rc, nI lc, nI wl, nI w1, w2, jl, fp, sp, sd, va, au, ro, wk, jo, tk) a b := by
  rw [wpY_listJoint]
  by_cases ha : ∃ k, k < rc ∧ a = nI k
  · have hb := h.resolve_left (fun z => z ha)
    obtain ⟨k, hk, rfl⟩ := ha
    exact wv_yrev1 hrc hk (br_f (by decide) (wv_yrev0 hrc hb (br_t rfl hp)))
  · exact wv_yrev0 hrc ha (br_t rfl hp)
theorem wv_ylist {post : Int32 → SY → Prop} {a b : Nat} {L : List Nat} (hrc : rc ≤ 16) (hG : wv_G rc kn fp sp) (ha : a < rc) (hb : b < rc) (hlc : lc ≤ 150)
    (hS : ∀ r, r < 16 → ∀ x, x < 150 → sd (r * 150 + x) = wv_b (st r x)) (hA : ∀ x, x < lc → au x = nI (am x) ∧ am x < rc)
    (hL : L.length = lc) (hro : wv_An ro 0 L) (hm : ∀ x, x ∈ L → x < lc) (hJ : (L.filter (wv_ij st kn am a b)).length ≤ 20)
    (k : ∀ jo' : Nat → Int32, wv_An jo' 0 (L.filter (wv_ij st kn am a b)) → post (nI (L.filter (wv_ij st kn am a b)).length) (nI rl, nI ll, nI rc, nI lc, nI wl, nI w1, w2, nI (L.filter (wv_ij st kn am a b)).length, fp, sp, sd, va, au, ro, wk, jo', tk)) :
    wpY_listJoint post (nI rl, nI ll, nI rc, nI lc, nI wl, nI w1, w2, jl, fp, sp, sd, va, au, ro, wk, jo, tk) (nI a) (nI b) := by
  rw [wpY_listJoint]
  refine wv_yrev1 hrc ha (br_f (by decide) ?_)
  refine wv_yrev1 hrc hb (br_f (by decide) ⟨L.length + 1, ?_⟩)
  exact wv_ylist26 hrc hG ha hb hlc hS hA L (L.length + 1) 0 [] jo (Nat.lt_succ_self _) (by omega) hro hm wv_An_nil hJ k
theorem wv_ij_self (a x : Nat) : wv_ij st kn am a a x = st a x := by
  unfold wv_ij
  cases h : st a x with
  | true => rw [if_pos rfl, Bool.true_or]
  | false => rw [if_neg (by decide), Bool.false_and]
theorem wv_ij_filt (a : Nat) (L : List Nat) : L.filter (wv_ij st kn am a a) = L.filter (st a) := List.filter_congr (fun x _ => wv_ij_self a x)
theorem wv_yat0 {post : Int32 → SY → Prop} {r i : Int32} (hrc : rc ≤ 16) (h : ¬ ∃ k, k < rc ∧ r = nI k) (hp : post (-2) (nI rl, nI ll, nI rc, nI lc, nI wl, nI w1, w2, jl, fp, sp, sd, va, au, ro, wk, jo, tk)) : wpY_lineAt post (nI rl, nI ll, nI rc, nI lc, nI wl, nI w1, w2, jl, fp, sp, sd, va, au, ro, wk, jo, tk) r i := by
  rw [wpY_lineAt]
  exact wv_ylist0 hrc (Or.inl h) (br_f (by decide) hp)
theorem wv_yat {post : Int32 → SY → Prop} {r : Nat} {i : Int32} {L : List Nat} (hrc : rc ≤ 16) (hG : wv_G rc kn fp sp) (hr : r < rc) (hlc : lc ≤ 150)
    (hS : ∀ r, r < 16 → ∀ x, x < 150 → sd (r * 150 + x) = wv_b (st r x)) (hA : ∀ x, x < lc → au x = nI (am x) ∧ am x < rc)
    (hL : L.length = lc) (hro : wv_An ro 0 L) (hm : ∀ x, x ∈ L → x < lc) (hJ : (L.filter (st r)).length ≤ 20)
    (k0 : (¬ ∃ j, j < (L.filter (st r)).length ∧ i = nI j) → ∀ (jl' : Int32) (jo' : Nat → Int32), post (-3) (nI rl, nI ll, nI rc, nI lc, nI wl, nI w1, w2, jl', fp, sp, sd, va, au, ro, wk, jo', tk))
    (k1 : ∀ j x, (L.filter (st r))[j]? = some x → i = nI j → ∀ (jl' : Int32) (jo' : Nat → Int32), post (nI x) (nI rl, nI ll, nI rc, nI lc, nI wl, nI w1, w2, jl', fp, sp, sd, va, au, ro, wk, jo', tk)) :
    wpY_lineAt post (nI rl, nI ll, nI rc, nI lc, nI wl, nI w1, w2, jl, fp, sp, sd, va, au, ro, wk, jo, tk) (nI r) i := by
  rw [wpY_lineAt]
  refine wv_ylist (kn := kn) (st := st) (am := am) hrc hG hr hr hlc hS hA hL hro hm (by rw [wv_ij_filt]; exact hJ) (fun jo' h => ?_)
  rw [wv_ij_filt] at h ⊢
  refine br_t (nI_pos' (by omega)) ?_
  by_cases hi' : ∃ j, j < (L.filter (st r)).length ∧ i = nI j
  · obtain ⟨j, hj, rfl⟩ := hi'
    obtain ⟨x, hx⟩ := wv_get_or _ hj
    refine br_f (nI_pos (by omega)) (br_t (nI_lt hj (by omega)) (And.intro (vp_in_nI (by omega) (by omega)) ?_))
    rw [nI_clamp (by omega)]
    have := wv_An_get h hx
    rw [Nat.zero_add] at this
    rw [this]
    exact k1 j x hx rfl _ _
  · refine br_c (fun _ => k0 hi' _ _) (fun z => br_f (fun z2 => hi' ?_) (k0 hi' _ _))
    obtain ⟨j, hj, rfl⟩ := nI_of z
    exact ⟨j, (nI_ltI hj (by omega)).mp z2, rfl⟩
end
end
section
/-! Y: conflicts and regions -/
theorem wv_cm_comm (st : Nat → Nat → Bool) (a b : Nat) : wv_cm st b a = wv_cm st a b := funext (fun x => Bool.and_comm _ _)
def wv_T (st kn : Nat → Nat → Bool) (am : Nat → Nat) (a b w : Nat) : Nat → Bool := if w ≤ 1 then st a else if w ≤ 3 then st b else wv_ij st kn am a b
/-- the conflicts of a and b from region h on -/
def wv_CL (st kn : Nat → Nat → Bool) (am : Nat → Nat) (a b : Nat) (L : List Nat) (h : Nat) : List Nat := wv_cl (wv_cm st a b) (wv_ch st kn am a b) (wv_ch st kn am b a) L h
def wv_isC (st kn : Nat → Nat → Bool) (am : Nat → Nat) (a b : Nat) (L : List Nat) (h : Nat) : Bool := wv_isc (wv_cm st a b) (wv_ch st kn am a b) (wv_ch st kn am b a) L h
theorem wv_CL_t {st kn : Nat → Nat → Bool} {am : Nat → Nat} {a b h : Nat} {L : List Nat} (hh : h ≤ 10) (e : wv_isC st kn am a b L h = true) : wv_CL st kn am a b L h = h :: wv_CL st kn am a b L (h + 1) := by
  unfold wv_CL
  rw [wv_cl_s hh, if_pos (show wv_isc (wv_cm st a b) (wv_ch st kn am a b) (wv_ch st kn am b a) L h = true from e)]
theorem wv_CL_f {st kn : Nat → Nat → Bool} {am : Nat → Nat} {a b h : Nat} {L : List Nat} (hh : h ≤ 10) (e : wv_isC st kn am a b L h = false) : wv_CL st kn am a b L h = wv_CL st kn am a b L (h + 1) := by
  unfold wv_CL
  rw [wv_cl_s hh, if_neg (by rw [show wv_isc (wv_cm st a b) (wv_ch st kn am a b) (wv_ch st kn am b a) L h = false from e]; decide)]
section
variable {rl ll rc lc wl w1 : Nat} {w2 jl : Int32} {fp sp sd va au ro wk jo tk : Nat → Int32} {st kn : Nat → Nat → Bool} {am : Nat → Nat} {L : List Nat} {a b : Nat}
theorem wv_ych104 {post : Int32 → Prop} {J6 : Int32 → Int32 → Prop} {g i c x : Nat} (hrc : rc ≤ 16) (hG : wv_G rc kn fp sp) (ha : a < rc) (hg : g < 1000) (hc : c < 1000) (hi' : i < 150) (hx : x < 150) (hro : ro i = nI x)
    (hA : au x = nI (am x)) (hA2 : am x < rc) (k1 : c = g → st b x = true → kn a (am x) = true → post 1) (k0 : (decide (c = g) && (st b x && kn a (am x))) = false → J6 (nI (i + 1)) (nI c)) {x2 : Int32} :
    wY_changed_104 post J6 (nI a) x2 (nI g) (nI i) (nI c) (wv_b (st b x)) (nI rl) (nI ll) (nI rc) (nI lc) (nI wl) (nI w1) w2 jl fp sp sd va au ro wk jo tk := by
  rw [wY_changed_104, nI_clamp (n := i) (by omega), hro, nI_clamp (n := x) (by omega), hA, nI_1]
  refine pk_eq c g (fun e => ?_) (fun e => nm_e (k0 (by rw [decide_eq_false e]; rfl)))
  rw [decide_eq_true e, Bool.true_and] at k0
  refine wv_b_br (fun e2 => nm_e (k0 (by rw [e2]; rfl))) (fun e2 => And.intro (vp_in_nI hi' (by omega)) (And.intro (vp_in_nI hx (by omega)) (wv_yhist hrc hG hA2 ha ?_)))
  exact wv_b_br (fun e3 => nm_e (k0 (by rw [e2, e3]; rfl))) (fun e3 => k1 e e2 e3)
theorem wv_ych71 {post : Int32 → Prop} {J6 : Int32 → Int32 → Prop} {g i c x : Nat} (hrc : rc ≤ 16) (hG : wv_G rc kn fp sp) (ha : a < rc) (hb : b < rc) (hg : g < 1000) (hc : c < 1000) (hi' : i < 150) (hx : x < 150) (hro : ro i = nI x)
    (hA : au x = nI (am x)) (hA2 : am x < rc) (hcm : wv_cm st a b x = false) (k1 : (decide (c = g) && wv_ch st kn am a b x) = true → post 1) (k0 : (decide (c = g) && wv_ch st kn am a b x) = false → J6 (nI (i + 1)) (nI c)) :
    wY_changed_71 post J6 (nI a) (nI b) (nI g) (nI i) (nI c) (wv_b (st a x)) (wv_b (st b x)) (nI rl) (nI ll) (nI rc) (nI lc) (nI wl) (nI w1) w2 jl fp sp sd va au ro wk jo tk := by
  have key : (st a x && !kn b (am x)) = false → wY_changed_104 post J6 (nI a) (nI b) (nI g) (nI i) (nI c) (wv_b (st b x)) (nI rl) (nI ll) (nI rc) (nI lc) (nI wl) (nI w1) w2 jl fp sp sd va au ro wk jo tk := by
    intro h
    refine wv_ych104 hrc hG ha hg hc hi' hx hro hA hA2 (fun e1 e2 e3 => k1 ?_) (fun e => k0 ?_)
    · unfold wv_ch
      rw [decide_eq_true e1, e2, e3, Bool.and_self, Bool.or_true]
      rfl
    · unfold wv_ch
      rw [h, Bool.false_or]
      exact e
  have key2 : ¬ c = g → wY_changed_104 post J6 (nI a) (nI b) (nI g) (nI i) (nI c) (wv_b (st b x)) (nI rl) (nI ll) (nI rc) (nI lc) (nI wl) (nI w1) w2 jl fp sp sd va au ro wk jo tk := by
    intro h
    refine wv_ych104 hrc hG ha hg hc hi' hx hro hA hA2 (fun e1 _ _ => absurd e1 h) (fun e => k0 ?_)
    rw [decide_eq_false h]
    rfl
  rw [wY_changed_71, nI_clamp (n := i) (by omega), hro, nI_clamp (n := x) (by omega), hA]
  refine pk_eq c g (fun e => ?_) (fun e => key2 e)
  refine wv_b_br (fun e2 => key (by rw [e2]; rfl)) (fun e2 => And.intro (vp_in_nI hi' (by omega)) (And.intro (vp_in_nI hx (by omega)) (wv_yhist hrc hG hA2 hb ?_)))
  refine wv_b_br (fun e3 => k1 ?_) (fun e3 => key (by rw [e3, Bool.not_true, Bool.and_false]))
  unfold wv_ch
  rw [decide_eq_true e, e2, e3]
  rfl
theorem wv_ych6 {post : Int32 → Prop} {g : Nat} (hrc : rc ≤ 16) (hG : wv_G rc kn fp sp) (ha : a < rc) (hb : b < rc) (hlc : lc ≤ 150) (hg : g < 1000)
    (hS : ∀ r, r < 16 → ∀ x, x < 150 → sd (r * 150 + x) = wv_b (st r x)) (hA : ∀ x, x < lc → au x = nI (am x) ∧ am x < rc) :
    ∀ (l : List Nat) (n i c : Nat), l.length < n → i + l.length = lc → wv_An ro i l → (∀ x, x ∈ l → x < lc) → c ≤ i →
    post (wv_b (wv_chg (wv_cm st a b) (wv_ch st kn am a b) g c l)) → wY_changed_6 post (nI a) (nI b) (nI g) (nI rl) (nI ll) (nI rc) (nI lc) (nI wl) (nI w1) w2 jl fp sp sd va au ro wk jo tk n (nI i) (nI c) := by
  intro l
  induction l with
  | nil =>
    intro n i c hn hi' hro hm hc k
    cases n with
    | zero => exact absurd hn (Nat.not_lt_zero _)
    | succ n =>
      rw [List.length_nil] at hi'
      exact br_t (nI_le (by omega) (by omega)) k
  | cons x l ih =>
    intro n i c hn hi' hro hm hc k
    cases n with
    | zero => exact absurd hn (Nat.not_lt_zero _)
    | succ n =>
      rw [List.length_cons] at hi' hn
      obtain ⟨h0, h1⟩ := wv_An_cons.mp hro
      have hxl := hm x List.mem_cons_self
      have hm' : ∀ y, y ∈ l → y < lc := fun y hy => hm y (List.mem_cons_of_mem _ hy)
      have ei : (nI i).toNatClampNeg = i := nI_clamp (by omega)
      have e1 : nI a * 150 + nI x = nI (a * 150 + x) := by rw [wv_m150, nI_add]
      have e2 : nI b * 150 + nI x = nI (b * 150 + x) := by rw [wv_m150, nI_add]
      have c1 : (nI (a * 150 + x)).toNatClampNeg = a * 150 + x := nI_clamp (by omega)
      have c2 : (nI (b * 150 + x)).toNatClampNeg = b * 150 + x := nI_clamp (by omega)
      have hvi : vp_in (nI i) 150 := vp_in_nI (by omega) (by omega)
      refine br_f (nI_ge (by omega) (by omega)) ?_
      rw [ei, h0, e1, e2, c1, c2, hS a (by omega) x (by omega), hS b (by omega) x (by omega)]
      refine And.intro hvi (And.intro (vp_in_nI (by omega) (by omega)) (nm_e (And.intro hvi (And.intro (vp_in_nI (by omega) (by omega)) (nm_e ?_)))))
      have key : wv_cm st a b x = false → wY_changed_71 post (wY_changed_6 post (nI a) (nI b) (nI g) (nI rl) (nI ll) (nI rc) (nI lc) (nI wl) (nI w1) w2 jl fp sp sd va au ro wk jo tk n) (nI a) (nI b) (nI g) (nI i) (nI c) (wv_b (st a x)) (wv_b (st b x)) (nI rl) (nI ll) (nI rc) (nI lc) (nI wl) (nI w1) w2 jl fp sp sd va au ro wk jo tk := by
        intro hcm
        rw [wv_chg_f hcm] at k
        refine wv_ych71 hrc hG ha hb hg (by omega) (by omega) (by omega) h0 (hA x hxl).1 (hA x hxl).2 hcm (fun e => ?_) (fun e => ?_)
        · rw [e, Bool.true_or] at k
          exact k
        · rw [e, Bool.false_or] at k
          exact ih n (i + 1) c (by omega) (by omega) h1 hm' (by omega) k
      refine wv_b_br (fun z1 => key ?_) (fun z1 => wv_b_br (fun z2 => key ?_) (fun z2 => nm_r (nI_1 c) (nm_r (nI_1 i) ?_)))
      · unfold wv_cm
        rw [z1]
        rfl
      · unfold wv_cm
        rw [z2, Bool.and_false]
      · rw [wv_chg_t (by unfold wv_cm; rw [z1, z2]; rfl)] at k
        exact ih n (i + 1) (c + 1) (by omega) (by omega) h1 hm' (by omega) k
theorem wv_yisc {post : Int32 → Prop} {g : Nat} (hrc : rc ≤ 16) (hG : wv_G rc kn fp sp) (ha : a < rc) (hb : b < rc) (hlc : lc ≤ 150) (hg : g < 1000)
    (hS : ∀ r, r < 16 → ∀ x, x < 150 → sd (r * 150 + x) = wv_b (st r x)) (hA : ∀ x, x < lc → au x = nI (am x) ∧ am x < rc)
    (hL : L.length = lc) (hro : wv_An ro 0 L) (hm : ∀ x, x ∈ L → x < lc) (k : post (wv_b (wv_isC st kn am a b L g))) :
    wpY_isConflict post (nI rl, nI ll, nI rc, nI lc, nI wl, nI w1, w2, jl, fp, sp, sd, va, au, ro, wk, jo, tk) (nI a) (nI b) (nI g) := by
  rw [wpY_isConflict, wpY_changed]
  refine ⟨L.length + 1, wv_ych6 (st := st) (kn := kn) (am := am) hrc hG ha hb hlc hg hS hA L (L.length + 1) 0 0 (Nat.lt_succ_self _) (by omega) hro hm (Nat.le_refl _) ?_⟩
  unfold wv_isC wv_isc at k
  refine wv_b_br (fun e => ?_) (fun e => ?_)
  · rw [e, Bool.false_and] at k
    exact k
  · rw [e, Bool.true_and] at k
    rw [wpY_changed]
    refine ⟨L.length + 1, wv_ych6 (st := st) (kn := kn) (am := am) hrc hG hb ha hlc hg hS hA L (L.length + 1) 0 0 (Nat.lt_succ_self _) (by omega) hro hm (Nat.le_refl _) ?_⟩
    rw [wv_cm_comm]
    refine wv_b_br (fun e => ?_) (fun e => ?_) <;> (rw [e] at k; exact k)
theorem wv_yconf24 {post : Int32 → Prop} (hrc : rc ≤ 16) (hG : wv_G rc kn fp sp) (ha : a < rc) (hb : b < rc) (hlc : lc ≤ 150)
    (hS : ∀ r, r < 16 → ∀ x, x < 150 → sd (r * 150 + x) = wv_b (st r x)) (hA : ∀ x, x < lc → au x = nI (am x) ∧ am x < rc)
    (hL : L.length = lc) (hro : wv_An ro 0 L) (hm : ∀ x, x ∈ L → x < lc) :
    ∀ (d n m h : Nat), h + d = 11 → d < n → post (nI (m + (wv_CL st kn am a b L h).length)) → wY_conflicts_24 post (nI a) (nI b) (nI rl) (nI ll) (nI rc) (nI lc) (nI wl) (nI w1) w2 jl fp sp sd va au ro wk jo tk n (nI m) (nI h) := by
  intro d
  induction d with
  | zero =>
    intro n m h hd hn k
    cases n with
    | zero => exact absurd hn (Nat.not_lt_zero _)
    | succ n =>
      have e : wv_CL st kn am a b L h = [] := wv_cl_e (by omega)
      rw [e] at k
      exact br_t (nI_lt (a := 10) (by omega) (by omega)) k
  | succ d ih =>
    intro n m h hd hn k
    cases n with
    | zero => exact absurd hn (Nat.not_lt_zero _)
    | succ n =>
      refine br_f (nI_nlt (b := h) (a := 10) (by omega) (by omega)) (wv_yisc (st := st) (kn := kn) (am := am) hrc hG ha hb hlc (by omega) hS hA hL hro hm ?_)
      refine wv_b_br (fun e => ?_) (fun e => ?_)
      · rw [wv_CL_f (by omega) e] at k
        exact nm_r (nI_1 h) (ih n m (h + 1) (by omega) (by omega) k)
      · rw [wv_CL_t (by omega) e, List.length_cons, show m + ((wv_CL st kn am a b L (h + 1)).length + 1) = m + 1 + (wv_CL st kn am a b L (h + 1)).length by omega] at k
        exact nm_r (nI_1 m) (nm_r (nI_1 h) (ih n (m + 1) (h + 1) (by omega) (by omega) k))
theorem wv_yconf0 {post : Int32 → Prop} {a b : Int32} (hrc : rc ≤ 16) (h : (¬ ∃ k, k < rc ∧ a = nI k) ∨ (¬ ∃ k, k < rc ∧ b = nI k)) (hp : post (-2)) : wpY_conflicts post (nI rl, nI ll, nI rc, nI lc, nI wl, nI w1, w2, jl, fp, sp, sd, va, au, ro, wk, jo, tk) a b := by
  rw [wpY_conflicts]
  by_cases ha : ∃ k, k < rc ∧ a = nI k
  · have hb := h.resolve_left (fun z => z ha)
    obtain ⟨k, hk, rfl⟩ := ha
    exact wv_yrev1 hrc hk (br_f (by decide) (wv_yrev0 hrc hb (br_t rfl hp)))
  · exact wv_yrev0 hrc ha (br_t rfl hp)
theorem wv_yconf {post : Int32 → Prop} (hrc : rc ≤ 16) (hG : wv_G rc kn fp sp) (ha : a < rc) (hb : b < rc) (hlc : lc ≤ 150)
    (hS : ∀ r, r < 16 → ∀ x, x < 150 → sd (r * 150 + x) = wv_b (st r x)) (hA : ∀ x, x < lc → au x = nI (am x) ∧ am x < rc)
    (hL : L.length = lc) (hro : wv_An ro 0 L) (hm : ∀ x, x ∈ L → x < lc) (k : post (nI (wv_CL st kn am a b L 0).length)) : wpY_conflicts post (nI rl, nI ll, nI rc, nI lc, nI wl, nI w1, w2, jl, fp, sp, sd, va, au, ro, wk, jo, tk) (nI a) (nI b) := by
  rw [wpY_conflicts]
  refine wv_yrev1 hrc ha (br_f (by decide) ?_)
  refine wv_yrev1 hrc hb (br_f (by decide) ⟨12, ?_⟩)
  exact wv_yconf24 hrc hG ha hb hlc hS hA hL hro hm 11 12 0 0 (by omega) (by omega) (by rw [Nat.zero_add]; exact k)
theorem wv_yreg188 {post : Int32 → Prop} {J104 : Int32 → Int32 → Int32 → Int32 → Prop} {x1 x2 x4 : Int32} {g c s e i : Nat} {bA bB t : Bool} (hg : g < 1000) (hc : c < 1000)
    (k : J104 (nI (if (bA && bB) = true then c + 1 else c)) (nI (s + (t && decide (c < g)).toNat)) (nI (e + (t && decide (c = g) && !(bA && bB)).toNat)) (nI (i + 1))) :
    wY_region_188 post J104 x1 x2 x4 (nI g) (nI c) (nI s) (nI e) (nI i) (wv_b bA) (wv_b bB) (wv_b t) (nI rl) (nI ll) (nI rc) (nI lc) (nI wl) (nI w1) w2 jl fp sp sd va au ro wk jo tk := by
  have n10 : ¬ (1 : Int32) = 0 := by decide
  have h1 : (nI g ≤ nI c) = (g ≤ c) := propext (nI_leI (by omega) (by omega))
  have h2 : (nI c = nI g) = (c = g) := propext (nI_eq (by omega) (by omega))
  rcases Nat.lt_trichotomy c g with z | z | z
  · have z1 : ¬ g ≤ c := by omega
    have z2 : ¬ c = g := by omega
    rw [decide_eq_true z, decide_eq_false z2] at k
    cases bA <;> cases bB <;> cases t <;> simp only [wY_region_188, wY_region_205, wY_region_227, wY_region_230, wv_b, n10, h1, h2, z1, z2, nI_1, forall_eq, eq_self, true_implies, not_true_eq_false, not_false_eq_true, false_implies, and_true, true_and] <;> exact k
  · have z1 : g ≤ c := by omega
    have z3 : ¬ c < g := by omega
    rw [decide_eq_true z, decide_eq_false z3] at k
    subst z
    cases bA <;> cases bB <;> cases t <;> simp only [wY_region_188, wY_region_205, wY_region_227, wY_region_230, wv_b, n10, h1, z1, nI_1, forall_eq, eq_self, true_implies, not_true_eq_false, not_false_eq_true, false_implies, and_true, true_and] <;> exact k
  · have z1 : g ≤ c := by omega
    have z2 : ¬ c = g := by omega
    have z3 : ¬ c < g := by omega
    rw [decide_eq_false z2, decide_eq_false z3] at k
    cases bA <;> cases bB <;> cases t <;> simp only [wY_region_188, wY_region_205, wY_region_227, wY_region_230, wv_b, n10, h1, h2, z1, z2, nI_1, forall_eq, eq_self, true_implies, not_true_eq_false, not_false_eq_true, false_implies, and_true, true_and] <;> exact k
theorem wv_yreg104 {post : Int32 → Prop} {g w : Nat} (hrc : rc ≤ 16) (hG : wv_G rc kn fp sp) (ha : a < rc) (hb : b < rc) (hlc : lc ≤ 150) (hg : g < 1000) (hw : w ≤ 5)
    (hS : ∀ r, r < 16 → ∀ x, x < 150 → sd (r * 150 + x) = wv_b (st r x)) (hA : ∀ x, x < lc → au x = nI (am x) ∧ am x < rc) :
    ∀ (l : List Nat) (n i c s e : Nat), l.length < n → i + l.length = lc → wv_An ro i l → (∀ x, x ∈ l → x < lc) → c ≤ i →
    post (if w % 2 = 0 then nI (s + wv_sta (wv_cm st a b) (wv_T st kn am a b w) g c l) else nI (e + wv_len (wv_cm st a b) (wv_T st kn am a b w) g c l)) →
    wY_region_104 post (nI a) (nI b) (nI w) (nI g) (nI rl) (nI ll) (nI rc) (nI lc) (nI wl) (nI w1) w2 jl fp sp sd va au ro wk jo tk n (nI c) (nI s) (nI e) (nI i) := by
  intro l
  induction l with
  | nil =>
    intro n i c s e hn hi' hro hm hc k
    cases n with
    | zero => exact absurd hn (Nat.not_lt_zero _)
    | succ n =>
      rw [List.length_nil] at hi'
      have erem : nI w - nI w / 2 * 2 = nI (w % 2) := pk_rem (d := 2) (by omega) (by omega) (by omega)
      refine br_t (nI_le (by omega) (by omega)) ?_
      rw [erem]
      refine And.intro (by decide) (pk_eq (w % 2) 0 (fun z => ?_) (fun z => ?_))
      · rw [if_pos z] at k
        exact k
      · rw [if_neg z] at k
        exact k
  | cons x l ih =>
    intro n i c s e hn hi' hro hm hc k
    cases n with
    | zero => exact absurd hn (Nat.not_lt_zero _)
    | succ n =>
      rw [List.length_cons] at hi' hn
      obtain ⟨h0, h1⟩ := wv_An_cons.mp hro
      have hxl := hm x List.mem_cons_self
      have hm' : ∀ y, y ∈ l → y < lc := fun y hy => hm y (List.mem_cons_of_mem _ hy)
      have ei : (nI i).toNatClampNeg = i := nI_clamp (by omega)
      have e1 : nI a * 150 + nI x = nI (a * 150 + x) := by rw [wv_m150, nI_add]
      have e2 : nI b * 150 + nI x = nI (b * 150 + x) := by rw [wv_m150, nI_add]
      have c1 : (nI (a * 150 + x)).toNatClampNeg = a * 150 + x := nI_clamp (by omega)
      have c2 : (nI (b * 150 + x)).toNatClampNeg = b * 150 + x := nI_clamp (by omega)
      have hvi : vp_in (nI i) 150 := vp_in_nI (by omega) (by omega)
      have key : wY_region_188 post (wY_region_104 post (nI a) (nI b) (nI w) (nI g) (nI rl) (nI ll) (nI rc) (nI lc) (nI wl) (nI w1) w2 jl fp sp sd va au ro wk jo tk n) (nI a) (nI b) (nI w) (nI g) (nI c) (nI s) (nI e) (nI i) (wv_b (st a x)) (wv_b (st b x)) (wv_b (wv_T st kn am a b w x)) (nI rl) (nI ll) (nI rc) (nI lc) (nI wl) (nI w1) w2 jl fp sp sd va au ro wk jo tk := by
        refine wv_yreg188 hg (by omega) (ih n (i + 1) _ _ _ (by omega) (by omega) h1 hm' ?_ ?_)
        · cases (st a x && st b x) with
          | true => rw [if_pos rfl]; omega
          | false => rw [if_neg (by decide)]; omega
        · rw [wv_sta, wv_len] at k
          rw [Nat.add_assoc, Nat.add_assoc]
          exact k
      refine br_f (nI_ge (by omega) (by omega)) ?_
      rw [ei, h0, e1, e2, c1, c2, hS a (by omega) x (by omega), hS b (by omega) x (by omega)]
      refine And.intro hvi (And.intro (vp_in_nI (by omega) (by omega)) (nm_e (And.intro hvi (And.intro (vp_in_nI (by omega) (by omega)) (nm_e ?_)))))
      refine pk_lt 1 w (fun z1 => pk_lt 3 w (fun z2 => ?_) (fun z2 => ?_)) (fun z1 => ?_)
      · have eT : wv_T st kn am a b w = wv_ij st kn am a b := by unfold wv_T; rw [if_neg (by omega), if_neg (by omega)]
        rw [eT] at key
        exact And.intro hvi (wv_yinj hrc hG ha hb (by omega) (fun r hr => hS r hr x (by omega)) (hA x hxl).1 (hA x hxl).2 key)
      · have eT : wv_T st kn am a b w = st b := by unfold wv_T; rw [if_neg (by omega), if_pos (by omega)]
        rw [eT] at key
        exact key
      · have eT : wv_T st kn am a b w = st a := by unfold wv_T; rw [if_pos (by omega)]
        rw [eT] at key
        exact key
theorem wv_yreg65 {post : Int32 → Prop} {w : Nat} (hrc : rc ≤ 16) (hG : wv_G rc kn fp sp) (ha : a < rc) (hb : b < rc) (hlc : lc ≤ 150) (hw : w ≤ 5)
    (hS : ∀ r, r < 16 → ∀ x, x < 150 → sd (r * 150 + x) = wv_b (st r x)) (hA : ∀ x, x < lc → au x = nI (am x) ∧ am x < rc)
    (hL : L.length = lc) (hro : wv_An ro 0 L) (hm : ∀ x, x ∈ L → x < lc) :
    ∀ (d n h left g : Nat) (gI : Int32), h + d = 11 → d < n → (wv_CL st kn am a b L h)[left]? = some g →
    post (if w % 2 = 0 then nI (wv_sta (wv_cm st a b) (wv_T st kn am a b w) g 0 L) else nI (wv_len (wv_cm st a b) (wv_T st kn am a b w) g 0 L)) →
    wY_region_65 post (nI a) (nI b) (nI w) 0 0 0 (nI rl) (nI ll) (nI rc) (nI lc) (nI wl) (nI w1) w2 jl fp sp sd va au ro wk jo tk n gI (nI left) (nI h) := by
  intro d
  induction d with
  | zero =>
    intro n h left g gI hd hn hg k
    have e : wv_CL st kn am a b L h = [] := wv_cl_e (by omega)
    rw [e] at hg
    cases hg
  | succ d ih =>
    intro n h left g gI hd hn hg k
    cases n with
    | zero => exact absurd hn (Nat.not_lt_zero _)
    | succ n =>
      have hleft : left < 2 ^ 31 := by
        have h1 := wv_lt hg
        have h2 : (wv_CL st kn am a b L h).length ≤ 11 - h := by
          unfold wv_CL wv_cl
          refine Nat.le_trans (List.length_filter_le _ _) ?_
          rw [List.length_range']
          exact Nat.le_refl _
        omega
      refine br_f (nI_nlt (b := h) (a := 10) (by omega) (by omega)) (br_f (nI_pos hleft) (wv_yisc (st := st) (kn := kn) (am := am) hrc hG ha hb hlc (by omega) hS hA hL hro hm ?_))
      refine wv_b_br (fun e => ?_) (fun e => ?_)
      · rw [wv_CL_f (by omega) e] at hg
        exact nm_r (nI_1 h) (ih n (h + 1) left g gI (by omega) (by omega) hg k)
      · rw [wv_CL_t (by omega) e] at hg
        cases left with
        | zero =>
          have eg : h = g := Option.some.inj hg
          subst eg
          refine nm_r (e' := -1) (by decide) (nm_r (nI_1 h) ?_)
          have fin : ∃ n104 : Nat, wY_region_104 post (nI a) (nI b) (nI w) (nI h) (nI rl) (nI ll) (nI rc) (nI lc) (nI wl) (nI w1) w2 jl fp sp sd va au ro wk jo tk n104 (nI 0) (nI 0) (nI 0) (nI 0) :=
            ⟨L.length + 1, wv_yreg104 hrc hG ha hb hlc (by omega) hw hS hA L (L.length + 1) 0 0 0 0 (Nat.lt_succ_self _) (by omega) hro hm (Nat.le_refl _) (by rw [Nat.zero_add, Nat.zero_add]; exact k)⟩
          cases n with
          | zero => omega
          | succ n =>
            refine br_c (fun _ => fin) (fun _ => br_t wv_neg1 fin)
        | succ left =>
          rw [pk_m1]
          exact nm_e (nm_r (nI_1 h) (ih n (h + 1) left g (nI h) (by omega) (by omega) hg k))
end
end
section
/-! Y: trying masks -/
theorem wv_btn {m k : Nat} (hk : k < 32) : bt (nI m) k = decide (m / 2 ^ k % 2 = 1) := by
  unfold bt
  show (BitVec.ofNat 32 m).getLsbD k = _
  rw [BitVec.getLsbD_ofNat, Nat.testBit_eq_decide_div_mod_eq, decide_eq_true hk, Bool.true_and]
theorem wv_full : ∀ w, w < 11 → ((1 : Int32) <<< (nI w &&& 31)) - 1 = nI (2 ^ w - 1) := by decide +kernel
section
variable {rl ll rc lc wl w1 : Nat} {w2 jl : Int32} {fp sp sd va au ro wk jo tk : Nat → Int32} {ws : List Int32} {js : List Nat}
theorem wv_ytk51 {post : Int32 → SY → Prop} {J7 : Int32 → Int32 → Int32 → (Nat → Int32) → (Nat → Int32) → (Nat → Int32) → (Nat → Int32) → (Nat → Int32) → (Nat → Int32) → (Nat → Int32) → (Nat → Int32) → (Nat → Int32) → Prop}
    {x1 : Int32} {a : Int32} {s p : Nat} (hp : p < 20) (hwk : wk p = a) (hJ : js.length ≤ 20) (hjl : jl = nI js.length) (htk : tk p = -1) :
    ∀ (v : List Nat) (j n : Nat) (x2 : Int32), j + v.length = js.length → v.length + 1 < n → wv_An jo j v → (∀ x, x ∈ v → x < 150) →
    (wv_fd va a v = none → post (-1) (nI rl, nI ll, nI rc, nI lc, nI wl, nI w1, w2, jl, fp, sp, sd, va, au, ro, wk, jo, tk)) →
    (∀ b w, wv_fd va a v = some (b, w) → J7 (nI (j + wv_fx va a v + 1)) (nI (s + 1)) (nI (p + 1)) fp sp sd va au ro wk jo (upd tk p (nI b))) →
    wY_take_51 post J7 x1 (nI s) (nI p) 1 (nI rl) (nI ll) (nI rc) (nI lc) (nI wl) (nI w1) w2 jl n x2 (nI j) fp sp sd va au ro wk jo tk := by
  have n10 : ¬ (1 : Int32) = 0 := by decide
  have ep : (nI p).toNatClampNeg = p := nI_clamp (by omega)
  have hvp : vp_in (nI p) 20 := vp_in_nI hp (by omega)
  intro v
  induction v with
  | nil =>
    intro j n x2 hd hn hv hm k0 k1
    cases n with
    | zero => exact absurd hn (Nat.not_lt_zero _)
    | succ n =>
      rw [List.length_nil] at hd
      refine br_f n10 (And.intro hvp (br_t (by rw [ep]; exact htk) (br_t (by rw [hjl]; exact nI_le (by omega) (by omega)) ?_)))
      rw [wY_take_123, ep, htk]
      exact br_f n10 (And.intro hvp (br_t rfl (k0 rfl)))
  | cons b v ih =>
    intro j n x2 hd hn hv hm k0 k1
    cases n with
    | zero => exact absurd hn (Nat.not_lt_zero _)
    | succ n =>
      rw [List.length_cons] at hd hn
      obtain ⟨h0, h1⟩ := wv_An_cons.mp hv
      have hbl := hm b List.mem_cons_self
      have hm' : ∀ y, y ∈ v → y < 150 := fun y hy => hm y (List.mem_cons_of_mem _ hy)
      have ej : (nI j).toNatClampNeg = j := nI_clamp (by omega)
      have eb : (nI b).toNatClampNeg = b := nI_clamp (by omega)
      have hvj : vp_in (nI j) 20 := vp_in_nI (by omega) (by omega)
      refine br_f n10 (And.intro hvp (br_t (by rw [ep]; exact htk) (br_f (by rw [hjl]; exact nI_ge (by omega) (by omega)) ?_)))
      rw [ej, h0, eb, ep, hwk, nI_1 j]
      refine And.intro hvj (And.intro (vp_in_nI hbl (by omega)) (And.intro hvp (br_c (fun z => And.intro hvj (And.intro hvp (nm_e (nm_e (nm_e ?_))))) (fun z => nm_e ?_))))
      · have k2 := k1 b v (wv_fd_t z)
        rw [wv_fx, if_pos z, Nat.add_zero] at k2
        have ht2 : upd tk p (nI b) p = nI b := pk_us
        have hne : ¬ nI b = -1 := wv_nI_ne (by omega) wv_neg1
        cases n with
        | zero => omega
        | succ n =>
          refine br_f n10 (And.intro hvp (br_f (by rw [ep, ht2]; exact hne) ?_))
          rw [wY_take_123, ep, ht2]
          refine br_f n10 (And.intro hvp (br_f hne ?_))
          rw [wY_take_141]
          exact br_f n10 (nm_r (nI_1 s) (nm_r (nI_1 p) k2))
      · refine ih (j + 1) n x2 (by omega) (by omega) h1 hm' (fun e => k0 (by rw [wv_fd_f z]; exact e)) (fun b' w e => ?_)
        have k2 := k1 b' w (by rw [wv_fd_f z]; exact e)
        rw [wv_fx, if_neg z] at k2
        rw [show j + 1 + wv_fx va a v + 1 = j + (wv_fx va a v + 1) + 1 by omega]
        exact k2
theorem wv_ytk7 {post : Int32 → SY → Prop} {m : Nat} (hwl : ws.length = wl) (hW : ws.length ≤ 10) (hJ : js.length ≤ 20) (hw : wv_At wk 0 ws) (hj : wv_An jo 0 js) (hb : ∀ x, x ∈ js → x < 150) (hjl : jl = nI js.length) :
    ∀ (u : List Int32) (n p f s : Nat) (tk : Nat → Int32), ws.drop p = u → p + u.length = ws.length → f ≤ js.length → u.length < n →
    (wv_tk va m u (js.drop f) = none → ∀ tk' : Nat → Int32, post (-1) (nI rl, nI ll, nI rc, nI lc, nI wl, nI w1, w2, jl, fp, sp, sd, va, au, ro, wk, jo, tk')) →
    (∀ (t : List (Option Nat)) (tk' : Nat → Int32), wv_tk va m u (js.drop f) = some t → (∀ j, j < p → tk' j = tk j) → wv_At tk' p (t.map wv_oi) → post (nI (s + wv_sz t)) (nI rl, nI ll, nI rc, nI lc, nI wl, nI w1, w2, jl, fp, sp, sd, va, au, ro, wk, jo, tk')) →
    wY_take_7 post (nI m) (nI rl) (nI ll) (nI rc) (nI lc) (nI wl) (nI w1) w2 jl n (nI f) (nI s) (nI p) fp sp sd va au ro wk jo tk := by
  intro u
  induction u with
  | nil =>
    intro n p f s tk hu hd hf hn k0 k1
    cases n with
    | zero => exact absurd hn (Nat.not_lt_zero _)
    | succ n =>
      rw [List.length_nil] at hd
      exact br_t (nI_le (by omega) (by omega)) (k1 [] tk rfl (fun _ _ => rfl) wv_At_nil)
  | cons a u ih =>
    intro n p f s tk hu hd hf hn k0 k1
    cases n with
    | zero => exact absurd hn (Nat.not_lt_zero _)
    | succ n =>
      rw [List.length_cons] at hd hn
      have hai : ws[p]? = some a := by
        have : (ws.drop p)[0]? = some a := by rw [hu]; rfl
        rw [List.getElem?_drop] at this
        exact this
      have hu' : ws.drop (p + 1) = u := by
        have := wv_drop_cons hai
        rw [hu] at this
        exact (List.cons.inj this).2.symm
      have hwi : wk p = a := by have := hw p a hai; rw [Nat.zero_add] at this; exact this
      have hlv : f + (js.drop f).length = js.length := by rw [List.length_drop]; omega
      have ep : (nI p).toNatClampNeg = p := nI_clamp (by omega)
      have hvp : vp_in (nI p) 20 := vp_in_nI (by omega) (by omega)
      have esh : nI wl - 1 - nI p = nI u.length := by
        obtain ⟨w', hw'⟩ : ∃ w', wl = w' + 1 := ⟨wl - 1, by omega⟩
        rw [hw', nI_pred, pk_sub (by omega)]
        exact congrArg nI (by omega)
      refine br_f (nI_ge (by omega) (by omega)) ?_
      rw [esh, wv_bit _ (by omega), wv_btn (by omega)]
      refine wv_b_br1 (fun e => ?_) (fun e => ?_)
      · have hbit : m / 2 ^ u.length % 2 = 1 := of_decide_eq_true e
        rw [wY_take_38, ep]
        refine And.intro hvp (nm_e ⟨js.length + 2, ?_⟩)
        refine wv_ytk51 (a := a) (js := js) (by omega) hwi hJ hjl pk_us (js.drop f) f (js.length + 2) (nI f) hlv (by omega) (wv_An_drop f hj) (fun x hx => hb x (List.mem_of_mem_drop hx)) (fun ef => k0 (wv_tk_w0 hbit ef) _) (fun b w ef => ?_)
        obtain ⟨hg, hw1⟩ := wv_fx_s _ ef
        have hlt := wv_lt hg
        have hw2 : w = js.drop (f + wv_fx va a (js.drop f) + 1) := hw1.trans (List.drop_drop.trans (congrArg (fun z => js.drop z) (by omega)))
        have etk := wv_tk_w1 hbit ef
        refine ih n (p + 1) (f + wv_fx va a (js.drop f) + 1) (s + 1) _ hu' (by omega) (by omega) (by omega) (fun e0 tk' => k0 ?_ tk') (fun t tk' e0 g1 g2 => ?_)
        · rw [etk, hw2, e0]; rfl
        · rw [← hw2] at e0
          have := k1 (some b :: t) tk' (by rw [etk, e0]; rfl) (fun j hj' => by rw [g1 j (by omega), pk_un (by omega), pk_un (by omega)]) (by rw [List.map_cons]; exact wv_At_cons.mpr ⟨(g1 p (by omega)).trans pk_us, g2⟩)
          rw [show s + 1 + wv_sz t = s + wv_sz (some b :: t) by rw [wv_sz, show (some b : Option Nat).isSome.toNat = 1 from rfl]; omega]
          exact this
      · have hbit : ¬ m / 2 ^ u.length % 2 = 1 := of_decide_eq_false e
        have etk := wv_tk_nw (val := va) (a := a) (v := js.drop f) hbit
        rw [wY_take_38, ep]
        refine And.intro hvp (nm_e ⟨1, br_t rfl ?_⟩)
        rw [wY_take_123]
        refine br_t rfl ?_
        rw [wY_take_141]
        refine br_t rfl (nm_r (nI_1 p) (ih n (p + 1) f s _ hu' (by omega) hf (by omega) (fun e0 tk' => k0 ?_ tk') (fun t tk' e0 g1 g2 => ?_)))
        · rw [etk, e0]; rfl
        · have := k1 (none :: t) tk' (by rw [etk, e0]; rfl) (fun j hj' => by rw [g1 j (by omega), pk_un (by omega)]) (by rw [List.map_cons]; exact wv_At_cons.mpr ⟨(g1 p (by omega)).trans pk_us, g2⟩)
          rw [show s + wv_sz t = s + wv_sz (none :: t) by rw [wv_sz, show (none : Option Nat).isSome.toNat = 0 from rfl]; omega]
          exact this
theorem wv_ytake {post : Int32 → SY → Prop} {m : Nat} (hwl : ws.length = wl) (hW : ws.length ≤ 10) (hJ : js.length ≤ 20) (hw : wv_At wk 0 ws) (hj : wv_An jo 0 js) (hb : ∀ x, x ∈ js → x < 150) (hjl : jl = nI js.length)
    (k0 : wv_tk va m ws js = none → ∀ tk' : Nat → Int32, post (-1) (nI rl, nI ll, nI rc, nI lc, nI wl, nI w1, w2, jl, fp, sp, sd, va, au, ro, wk, jo, tk'))
    (k1 : ∀ (t : List (Option Nat)) (tk' : Nat → Int32), wv_tk va m ws js = some t → wv_At tk' 0 (t.map wv_oi) → post (nI (wv_sz t)) (nI rl, nI ll, nI rc, nI lc, nI wl, nI w1, w2, jl, fp, sp, sd, va, au, ro, wk, jo, tk')) :
    wpY_take post (nI rl, nI ll, nI rc, nI lc, nI wl, nI w1, w2, jl, fp, sp, sd, va, au, ro, wk, jo, tk) (nI m) := by
  rw [wpY_take]
  exact ⟨ws.length + 1, wv_ytk7 hwl hW hJ hw hj hb hjl ws (ws.length + 1) 0 0 0 tk rfl (by omega) (Nat.zero_le _) (Nat.lt_succ_self _) k0 (fun t tk' e _ h => by rw [Nat.zero_add]; exact k1 t tk' e h)⟩
theorem wv_ymask {post : Int32 → SY → Prop} (hwl : ws.length = wl) (hW : ws.length ≤ 10) (hJ : js.length ≤ 20) (hw : wv_At wk 0 ws) (hj : wv_An jo 0 js) (hb : ∀ x, x ∈ js → x < 150) (hjl : jl = nI js.length)
    (fin : ∀ tk' : Nat → Int32, wv_At tk' 0 ((wv_ck va ws js).map wv_oi) → ∃ n104 : Nat, wY_commit_104 post (nI rl) (nI ll) (nI rc) (nI wl) (nI w1) w2 jl n104 0 (nI lc) fp sp sd va au ro wk jo tk') :
    ∀ (mask n best most : Nat) (tk : Nat → Int32), mask < n → mask < 2 ^ ws.length → most ≤ 10 → wv_best va ws js mask best most →
    wY_commit_69 post n (nI best) (nI most) (nI mask) (nI rl) (nI ll) (nI rc) (nI lc) (nI wl) (nI w1) w2 jl fp sp sd va au ro wk jo tk := by
  have h10 : 2 ^ ws.length ≤ 2 ^ 10 := Nat.pow_le_pow_right (by decide) hW
  have h10' : (2 : Nat) ^ 10 = 1024 := by decide
  intro mask
  induction mask with
  | zero =>
    intro n best most tk hn hm hmo hB
    cases n with
    | zero => exact absurd hn (Nat.not_lt_zero _)
    | succ n =>
      have eb := wv_best_e hB
      have hl := wv_mk_lt (wv_ck va ws js)
      rw [wv_ck_len] at hl
      have et := wv_tk_ck (val := va) (m := best) ws js (by rw [eb, Nat.mod_eq_of_lt hl])
      refine br_t (by decide) (wv_ytake hwl hW hJ hw hj hb hjl (fun e => ?_) (fun t tk' e h => ?_))
      · rw [et] at e
        cases e
      · rw [et] at e
        rw [← Option.some.inj e] at h
        exact fin tk' h
  | succ mask ih =>
    intro n best most tk hn hm hmo hB
    cases n with
    | zero => exact absurd hn (Nat.not_lt_zero _)
    | succ n =>
      refine br_f (nI_nle (by omega) (by omega)) (wv_ytake hwl hW hJ hw hj hb hjl (fun e tk' => ?_) (fun t tk' e h => ?_))
      · refine br_t (Int32.le_of_lt (Int32.lt_of_lt_of_le wv_neg1 (nI_pos' (by omega)))) (nm_r (pk_m1 mask) (ih n best most tk' (by omega) (by omega) hmo (wv_best_n hm hB (fun t e2 => ?_))))
        rw [e] at e2
        cases e2
      · have hsz : wv_sz t ≤ 10 := Nat.le_trans (wv_tk_le ws js t e) (Nat.le_trans (wv_lcs_le _ _) hW)
        refine pk_le (wv_sz t) most (fun z => ?_) (fun z => ?_)
        · refine nm_r (pk_m1 mask) (ih n best most tk' (by omega) (by omega) hmo (wv_best_n hm hB (fun t2 e2 => ?_)))
          rw [e] at e2
          rw [← Option.some.inj e2]
          exact z
        · refine wv_ytake hwl hW hJ hw hj hb hjl (fun e2 => ?_) (fun t2 tk2 e2 h2 => ?_)
          · rw [e] at e2
            cases e2
          · rw [e] at e2
            rw [← Option.some.inj e2]
            exact nm_r (pk_m1 mask) (ih n (mask + 1) (wv_sz t) tk2 (by omega) (by omega) hsz (wv_best_y hm hB e z))
end
end
section
/-! Y: weaving the new lines -/
def wv_mark (c : Nat) (sd : Nat → Int32) : List Nat → Nat → Int32
  | [] => sd
  | t :: T => wv_mark c (upd sd (c * 150 + t) 1) T
theorem wv_mark_at {c : Nat} : ∀ (T : List Nat) (sd : Nat → Int32) (r x : Nat), (∀ t, t ∈ T → t < 150) → x < 150 →
    wv_mark c sd T (r * 150 + x) = if r = c ∧ x ∈ T then 1 else sd (r * 150 + x) := by
  intro T
  induction T with
  | nil =>
    intro sd r x _ _
    rw [if_neg (fun h => nomatch h.2)]
    rfl
  | cons t T ih =>
    intro sd r x hm hx
    have ht := hm t List.mem_cons_self
    show wv_mark c (upd sd (c * 150 + t) 1) T (r * 150 + x) = _
    rw [ih _ r x (fun z hz => hm z (List.mem_cons_of_mem _ hz)) hx]
    by_cases h1 : r = c ∧ x ∈ T
    · rw [if_pos h1, if_pos ⟨h1.1, List.mem_cons_of_mem _ h1.2⟩]
    · rw [if_neg h1]
      by_cases h2 : r = c ∧ x = t
      · rw [if_pos ⟨h2.1, by rw [h2.2]; exact List.mem_cons_self⟩, h2.1, h2.2]
        exact pk_us
      · rw [if_neg, pk_un]
        · intro e
          apply h2
          omega
        · intro h
          rcases List.mem_cons.mp h.2 with z | z
          · exact h2 ⟨h.1, z⟩
          · exact h1 ⟨h.1, z⟩
def wv_sc : Option Nat → Nat → List Nat → Nat → Nat
  | none, _, _, t => t
  | some q, j, l, t => wv_scan q j l t
theorem wv_nar1 : vp_nar .boolean 1 = 1 := rfl
section
variable {rl ll rc lc wl w1 : Nat} {w2 jl : Int32} {fp sp sd va au ro wk jo tk : Nat → Int32}
theorem wv_yc262 {post : Int32 → SY → Prop} {J104 : Int32 → Int32 → (Nat → Int32) → (Nat → Int32) → (Nat → Int32) → (Nat → Int32) → (Nat → Int32) → (Nat → Int32) → (Nat → Int32) → (Nat → Int32) → (Nat → Int32) → Prop} {i t : Nat}
    (hi' : i < 20) (hrc : rc < 16) (ht : t < 150) (htk : tk i = nI t) (k : J104 (nI (i + 1)) (nI lc) fp sp (upd sd (rc * 150 + t) 1) va au ro wk jo tk) :
    wY_commit_262 post J104 (nI i) (nI rl) (nI ll) (nI rc) (nI lc) (nI wl) (nI w1) w2 jl fp sp sd va au ro wk jo tk := by
  have e1 : nI rc * 150 + nI t = nI (rc * 150 + t) := by rw [wv_m150, nI_add]
  rw [wY_commit_262, nI_clamp (n := i) (by omega), htk, e1, nI_clamp (n := rc * 150 + t) (by omega), wv_nar1]
  exact And.intro (vp_in_nI hi' (by omega)) (And.intro (vp_in_nI (by omega) (by omega)) (nm_e (nm_r (nI_1 i) k)))
theorem wv_yc177 {post : Int32 → SY → Prop} {J104 : Int32 → Int32 → (Nat → Int32) → (Nat → Int32) → (Nat → Int32) → (Nat → Int32) → (Nat → Int32) → (Nat → Int32) → (Nat → Int32) → (Nat → Int32) → (Nat → Int32) → Prop} {i k : Nat}
    (hi' : i < 20) (hrc : rc < 16) (hlc : lc < 150) :
    ∀ (d n : Nat) (ro : Nat → Int32), k + d ≤ lc → d < n →
    J104 (nI (i + 1)) (nI (lc + 1)) fp sp (upd sd (rc * 150 + lc) 1) (upd va lc (wk i)) (upd au lc (nI rc)) (upd (wv_sh ro k d) k (nI lc)) wk jo (upd tk i (nI lc)) →
    wY_commit_177 post J104 (nI i) (nI k) (nI rl) (nI ll) (nI rc) (nI lc) (nI wl) (nI w1) w2 jl n (nI (k + d)) fp sp sd va au ro wk jo tk := by
  intro d
  induction d with
  | zero =>
    intro n ro hk hn K
    cases n with
    | zero => exact absurd hn (Nat.not_lt_zero _)
    | succ n =>
      have ek : (nI k).toNatClampNeg = k := nI_clamp (by omega)
      have el : (nI lc).toNatClampNeg = lc := nI_clamp (by omega)
      have ei : (nI i).toNatClampNeg = i := nI_clamp (by omega)
      have hvi : vp_in (nI i) 20 := vp_in_nI hi' (by omega)
      have hvl : vp_in (nI lc) 150 := vp_in_nI hlc (by omega)
      refine br_t (nI_le (by omega) (by omega)) ?_
      rw [ek, el, ei, nI_1]
      refine And.intro (vp_in_nI (by omega) (by omega)) (nm_e (And.intro hvi (And.intro hvl (nm_e (And.intro hvl (nm_e (nm_e (And.intro hvi (nm_e ?_)))))))))
      exact wv_yc262 (lc := lc + 1) hi' hrc hlc pk_us K
  | succ d ih =>
    intro n ro hk hn K
    cases n with
    | zero => exact absurd hn (Nat.not_lt_zero _)
    | succ n =>
      have e1 : nI (k + (d + 1)) - 1 = nI (k + d) := nI_pred (k + d)
      have e2 : nI (k + (d + 1)) + (-1) = nI (k + d) := pk_m1 (k + d)
      have e3 : (nI (k + d)).toNatClampNeg = k + d := nI_clamp (by omega)
      have e4 : (nI (k + (d + 1))).toNatClampNeg = k + d + 1 := nI_clamp (by omega)
      refine br_f (nI_ge (by omega) (by omega)) ?_
      rw [e1, e2, e3, e4]
      exact And.intro (vp_in_nI (by omega) (by omega)) (And.intro (vp_in_nI (by omega) (by omega)) (nm_e (nm_e (ih n _ (by omega) (by omega) K))))
theorem wv_yc128 {post : Int32 → SY → Prop} {J104 : Int32 → Int32 → (Nat → Int32) → (Nat → Int32) → (Nat → Int32) → (Nat → Int32) → (Nat → Int32) → (Nat → Int32) → (Nat → Int32) → (Nat → Int32) → (Nat → Int32) → Prop} {i : Nat} {p : Option Nat}
    (hi' : i < 20) (hlc : lc < 150) (hp : (i = 0 ∧ p = none) ∨ (0 < i ∧ ∃ q, q < 150 ∧ p = some q ∧ tk (i - 1) = nI q)) {k : Nat}
    (K : ∃ n177 : Nat, wY_commit_177 post J104 (nI i) (nI k) (nI rl) (nI ll) (nI rc) (nI lc) (nI wl) (nI w1) w2 jl n177 (nI lc) fp sp sd va au ro wk jo tk) :
    ∀ (l : List Nat) (n j t : Nat), l.length < n → j + l.length = lc → wv_An ro j l → (∀ x, x ∈ l → x < 150) →
    wv_sc p j l t = k →
    wY_commit_128 post J104 (nI i) (nI rl) (nI ll) (nI rc) (nI lc) (nI wl) (nI w1) w2 jl fp sp sd va au ro wk jo tk n (nI t) (nI j) := by
  intro l
  induction l with
  | nil =>
    intro n j t hn hd hro hm hk
    cases n with
    | zero => exact absurd hn (Nat.not_lt_zero _)
    | succ n =>
      rw [List.length_nil] at hd
      have e : t = k := by cases p <;> exact hk
      subst e
      exact br_t (nI_le (by omega) (by omega)) K
  | cons y l ih =>
    intro n j t hn hd hro hm hk
    cases n with
    | zero => exact absurd hn (Nat.not_lt_zero _)
    | succ n =>
      rw [List.length_cons] at hd hn
      obtain ⟨h0, h1⟩ := wv_An_cons.mp hro
      have hyl := hm y List.mem_cons_self
      have hm' : ∀ z, z ∈ l → z < 150 := fun z hz => hm z (List.mem_cons_of_mem _ hz)
      refine br_f (nI_ge (by omega) (by omega)) ?_
      rcases hp with ⟨hi0, rfl⟩ | ⟨hi0, q, hq, rfl, hcq⟩
      · refine br_t (by rw [hi0]; decide) (nm_r (nI_1 j) (ih n (j + 1) t (by omega) (by omega) h1 hm' hk))
      · obtain ⟨i2, rfl⟩ : ∃ i2, i = i2 + 1 := ⟨i - 1, by omega⟩
        rw [Nat.add_sub_cancel] at hcq
        refine br_f (nI_nle (by omega) (by omega)) ?_
        rw [nI_pred, nI_clamp (n := j) (by omega), nI_clamp (n := i2) (by omega), h0, hcq, nI_1 j]
        refine And.intro (vp_in_nI (by omega) (by omega)) (And.intro (vp_in_nI (by omega) (by omega)) (pk_eq y q (fun z => ?_) (fun z => ?_)))
        · have hk' : wv_scan q (j + 1) l (j + 1) = k := by
            have : wv_scan q (j + 1) l (if y = q then j + 1 else t) = k := hk
            rw [if_pos z] at this
            exact this
          exact nm_e (nm_e (ih n (j + 1) (j + 1) (by omega) (by omega) h1 hm' hk'))
        · have hk' : wv_scan q (j + 1) l t = k := by
            have : wv_scan q (j + 1) l (if y = q then j + 1 else t) = k := hk
            rw [if_neg z] at this
            exact this
          exact nm_e (ih n (j + 1) t (by omega) (by omega) h1 hm' hk')
theorem wv_yc104 {post : Int32 → SY → Prop} (hwl : wl ≤ 10) (hrc : rc < 16) :
    ∀ (cl : List (Option Nat)) (n i : Nat) (p : Option Nat) (L : List Nat) (sd va au ro tk : Nat → Int32),
    cl.length < n → i + cl.length = wl → wv_Ro L → (∀ y, some y ∈ cl → y ∈ L) → L.length + cl.length ≤ 150 → wv_An ro 0 L → wv_At tk i (cl.map wv_oi) →
    ((i = 0 ∧ p = none) ∨ (0 < i ∧ ∃ q, q ∈ L ∧ p = some q ∧ tk (i - 1) = nI q)) →
    (∀ tk' : Nat → Int32, post (nI rc) (nI rl, nI ll, nI (rc + 1), nI (wv_we wk (nI rc) i p cl L ro va au).1.length, nI wl, nI rc, (-1), jl, upd fp rc (nI w1), upd sp rc w2, wv_mark rc sd (wv_we wk (nI rc) i p cl L ro va au).2.1, (wv_we wk (nI rc) i p cl L ro va au).2.2.2.1, (wv_we wk (nI rc) i p cl L ro va au).2.2.2.2, (wv_we wk (nI rc) i p cl L ro va au).2.2.1, wk, jo, tk')) →
    wY_commit_104 post (nI rl) (nI ll) (nI rc) (nI wl) (nI w1) w2 jl n (nI i) (nI L.length) fp sp sd va au ro wk jo tk := by
  intro cl
  induction cl with
  | nil =>
    intro n i p L sd va au ro tk hn hi' hR hy hN hro htk hp K
    cases n with
    | zero => exact absurd hn (Nat.not_lt_zero _)
    | succ n =>
      rw [List.length_nil] at hi'
      have er : (nI rc).toNatClampNeg = rc := nI_clamp (by omega)
      have hvr : vp_in (nI rc) 16 := vp_in_nI hrc (by omega)
      refine br_t (nI_le (by omega) (by omega)) ?_
      rw [er]
      exact And.intro hvr (nm_e (And.intro hvr (nm_e (nm_r (nI_1 rc) (K tk)))))
  | cons o cl ih =>
    intro n i p L sd va au ro tk hn hi' hR hy hN hro htk hp K
    cases n with
    | zero => exact absurd hn (Nat.not_lt_zero _)
    | succ n =>
      rw [List.length_cons] at hi' hn hN
      rw [List.map_cons] at htk
      obtain ⟨hc0, hc1⟩ := wv_At_cons.mp htk
      have ei : (nI i).toNatClampNeg = i := nI_clamp (by omega)
      have hvi : vp_in (nI i) 20 := vp_in_nI (by omega) (by omega)
      refine br_f (nI_ge (by omega) (by omega)) (And.intro hvi ?_)
      rw [ei, hc0]
      cases o with
      | some y =>
        have hyL : y ∈ L := hy y List.mem_cons_self
        have hyl := hR.2 y hyL
        refine br_f (wv_nI_ne (by omega) wv_neg1) (wv_yc262 (t := y) (by omega) hrc (by omega) hc0 ?_)
        exact ih n (i + 1) (some y) L _ va au ro tk (by omega) (by omega) hR (fun z hz => hy z (List.mem_cons_of_mem _ hz)) (by omega) hro hc1 (Or.inr ⟨by omega, y, hyL, rfl, hc0⟩) K
      | none =>
        have hp' : (i = 0 ∧ p = none) ∨ (0 < i ∧ ∃ q, q < 150 ∧ p = some q ∧ tk (i - 1) = nI q) := by
          rcases hp with h | ⟨h0, q, hq, rfl, hcq⟩
          · exact Or.inl h
          · have := hR.2 q hq
            exact Or.inr ⟨h0, q, by omega, rfl, hcq⟩
        have hkL : wv_k p L ≤ L.length := by
          rcases hp with ⟨h0, rfl⟩ | ⟨h0, q, hq, rfl, hcq⟩
          · exact Nat.zero_le _
          · obtain ⟨j, hj⟩ := List.getElem?_of_mem hq
            have hk := wv_k_some hR.1 hj
            have hjl := wv_lt hj
            omega
        have eL : L.take (wv_k p L) ++ L.drop (wv_k p L) = L := List.take_append_drop _ _
        have el1 : (L.take (wv_k p L)).length = wv_k p L := by rw [List.length_take]; omega
        have el2 : (L.drop (wv_k p L)).length = L.length - wv_k p L := List.length_drop
        have hR' : wv_Ro (L.take (wv_k p L) ++ L.length :: L.drop (wv_k p L)) := by
          have := wv_Ro_ins (l1 := L.take (wv_k p L)) (l2 := L.drop (wv_k p L)) (eL.symm ▸ hR)
          rw [eL] at this
          exact this
        have hlen : (L.take (wv_k p L) ++ L.length :: L.drop (wv_k p L)).length = L.length + 1 := by
          rw [List.length_append, List.length_cons, el1, el2]; omega
        have hro' : wv_An (upd (wv_sh ro (wv_k p L) (L.length - wv_k p L)) (wv_k p L) (nI L.length)) 0 (L.take (wv_k p L) ++ L.length :: L.drop (wv_k p L)) := by
          have := wv_sh_An (l := L.take (wv_k p L)) (m := L.drop (wv_k p L)) (eL.symm ▸ hro) L.length
          rw [el1, el2] at this
          exact this
        have hmem : ∀ z, z ∈ L → z ∈ L.take (wv_k p L) ++ L.length :: L.drop (wv_k p L) := by
          intro z hz
          rw [← eL] at hz
          rcases List.mem_append.mp hz with h | h
          · exact List.mem_append.mpr (Or.inl h)
          · exact List.mem_append.mpr (Or.inr (List.mem_cons_of_mem _ h))
        have hscan : wv_sc p 0 L 0 = wv_k p L := by cases p <;> rfl
        refine br_t rfl ⟨L.length + 1, wv_yc128 (p := p) (lc := L.length) (k := wv_k p L) (by omega) (by omega) hp' ⟨L.length - wv_k p L + 1, ?_⟩ L (L.length + 1) 0 0 (Nat.lt_succ_self _) (by omega) hro (fun x hx => by have := hR.2 x hx; omega) hscan⟩
        have key := wv_yc177 (post := post) (J104 := wY_commit_104 post (nI rl) (nI ll) (nI rc) (nI wl) (nI w1) w2 jl n) (i := i) (k := wv_k p L) (lc := L.length) (rc := rc) (rl := rl) (ll := ll) (wl := wl) (w1 := w1) (w2 := w2) (jl := jl) (fp := fp) (sp := sp) (sd := sd) (va := va) (au := au) (wk := wk) (jo := jo) (tk := tk) (by omega) hrc (by omega) (L.length - wv_k p L) (L.length - wv_k p L + 1) ro (by omega) (Nat.lt_succ_self _) ?_
        · rw [show wv_k p L + (L.length - wv_k p L) = L.length by omega] at key
          exact key
        · rw [← hlen]
          exact ih n (i + 1) (some L.length) _ _ _ _ _ _ (by omega) (by omega) hR' (fun z hz => hmem z (hy z (List.mem_cons_of_mem _ hz))) (by rw [hlen]; omega) hro' (wv_At_upd hc1 (Or.inl (by omega))) (Or.inr ⟨by omega, L.length, List.mem_append.mpr (Or.inr List.mem_cons_self), rfl, pk_us⟩) K
end
end
section
/-! the workspace's loops, base and order, on both sides -/
def wv_bs (kn : Nat → Nat → Bool) (a b : Nat) : Nat → Nat
  | 0 => 0
  | q + 1 => if (kn a (q + 1) && kn b (q + 1)) = true then q + 1 else wv_bs kn a b q
section
variable {rl ll lc rc wl w1 : Nat} {w2 jl cc pA pB sA sB sJ dA dB : Int32} {va au ho pl ro fp sp hi tl tx wk jo cd be ch : Nat → Int32}
theorem wv_xco {post : Int32 → SX → Prop} {r len : Nat} (hr : r < 16) (hlen : len ≤ 10) :
    ∀ (T : List Nat) (n i : Nat) (wk : Nat → Int32), T.length < n → i + T.length = len → wv_An tx (r * 10 + i) T → (∀ x, x ∈ T → x < 150) →
    post 0 (nI rl, nI ll, nI lc, nI rc, nI len, nI r, (-1), jl, cc, pA, pB, sA, sB, sJ, dA, dB, va, au, ho, pl, ro, fp, sp, hi, tl, tx, wv_fill wk i (T.map va), jo, cd, be, ch) → wX_checkout_23 post (nI r) (nI rl) (nI ll) (nI lc) (nI rc) (nI len) (nI w1) w2 jl cc pA pB sA sB sJ dA dB n (nI i) va au ho pl ro fp sp hi tl tx wk jo cd be ch := by
  intro T
  induction T with
  | nil =>
    intro n i wk hn hi' hT hm K
    cases n with
    | zero => exact absurd hn (Nat.not_lt_zero _)
    | succ n =>
      rw [List.length_nil] at hi'
      exact br_t (nI_le (by omega) (by omega)) K
  | cons t T ih =>
    intro n i wk hn hi' hT hm K
    cases n with
    | zero => exact absurd hn (Nat.not_lt_zero _)
    | succ n =>
      rw [List.length_cons] at hi' hn
      obtain ⟨h0, h1⟩ := wv_An_cons.mp hT
      have htl := hm t List.mem_cons_self
      have ex : nI r * 10 + nI i = nI (r * 10 + i) := by rw [wv_m10, nI_add]
      refine br_f (nI_ge (by omega) (by omega)) ?_
      rw [ex, nI_clamp (n := r * 10 + i) (by omega), h0, nI_clamp (n := t) (by omega), nI_clamp (n := i) (by omega)]
      exact And.intro (vp_in_nI (by omega) (by omega)) (And.intro (vp_in_nI (by omega) (by omega)) (And.intro (vp_in_nI (by omega) (by omega)) (nm_e (nm_r (nI_1 i) (ih n (i + 1) _ (by omega) (by omega) h1 (fun x hx => hm x (List.mem_cons_of_mem _ hx)) K)))))
theorem wv_xmg {post : Int32 → SX → Prop} {a b len : Nat} (hlen : len ≤ 20) :
    ∀ (T : List Nat) (n i : Nat) (wk : Nat → Int32), T.length < n → i + T.length = len → wv_An jo i T → (∀ x, x ∈ T → x < 150) →
    post cc (nI rl, nI ll, nI lc, nI rc, nI len, nI a, nI b, nI len, cc, pA, pB, sA, sB, sJ, dA, dB, va, au, ho, pl, ro, fp, sp, hi, tl, tx, wv_fill wk i (T.map va), jo, cd, be, ch) → wX_merge_35 post (nI a) (nI b) (nI rl) (nI ll) (nI lc) (nI rc) (nI len) (nI w1) w2 (nI len) cc pA pB sA sB sJ dA dB n (nI i) va au ho pl ro fp sp hi tl tx wk jo cd be ch := by
  intro T
  induction T with
  | nil =>
    intro n i wk hn hi' hT hm K
    cases n with
    | zero => exact absurd hn (Nat.not_lt_zero _)
    | succ n =>
      rw [List.length_nil] at hi'
      exact br_t (nI_le (by omega) (by omega)) K
  | cons t T ih =>
    intro n i wk hn hi' hT hm K
    cases n with
    | zero => exact absurd hn (Nat.not_lt_zero _)
    | succ n =>
      rw [List.length_cons] at hi' hn
      obtain ⟨h0, h1⟩ := wv_An_cons.mp hT
      have htl := hm t List.mem_cons_self
      refine br_f (nI_ge (by omega) (by omega)) ?_
      rw [nI_clamp (n := i) (by omega), h0, nI_clamp (n := t) (by omega)]
      exact And.intro (vp_in_nI (by omega) (by omega)) (And.intro (vp_in_nI (by omega) (by omega)) (And.intro (vp_in_nI (by omega) (by omega)) (nm_e (nm_r (nI_1 i) (ih n (i + 1) _ (by omega) (by omega) h1 (fun x hx => hm x (List.mem_cons_of_mem _ hx)) K)))))
theorem wv_xins {post : Int32 → SX → Prop} {p : Nat} {v : Int32} :
    ∀ (d n : Nat) (wk : Nat → Int32), d < n → p + d < 20 → post 0 (nI rl, nI ll, nI lc, nI rc, nI (wl + 1), nI w1, w2, jl, cc, pA, pB, sA, sB, sJ, dA, dB, va, au, ho, pl, ro, fp, sp, hi, tl, tx, upd (wv_sh wk p d) p v, jo, cd, be, ch) → wX_insertLine_34 post (nI p) v (nI rl) (nI ll) (nI lc) (nI rc) (nI wl) (nI w1) w2 jl cc pA pB sA sB sJ dA dB n (nI (p + d)) va au ho pl ro fp sp hi tl tx wk jo cd be ch := by
  intro d
  induction d with
  | zero =>
    intro n wk hn hp K
    cases n with
    | zero => exact absurd hn (Nat.not_lt_zero _)
    | succ n =>
      refine br_t (nI_le (by omega) (by omega)) ?_
      rw [nI_clamp (n := p) (by omega)]
      exact And.intro (vp_in_nI (by omega) (by omega)) (nm_e (nm_r (nI_1 wl) K))
  | succ d ih =>
    intro n wk hn hp K
    cases n with
    | zero => exact absurd hn (Nat.not_lt_zero _)
    | succ n =>
      have e1 : nI (p + (d + 1)) - 1 = nI (p + d) := nI_pred (p + d)
      have e2 : nI (p + (d + 1)) + (-1) = nI (p + d) := pk_m1 (p + d)
      have e3 : (nI (p + d)).toNatClampNeg = p + d := nI_clamp (by omega)
      have e4 : (nI (p + (d + 1))).toNatClampNeg = p + d + 1 := nI_clamp (by omega)
      refine br_f (nI_ge (by omega) (by omega)) ?_
      rw [e1, e2, e3, e4]
      exact And.intro (vp_in_nI (by omega) (by omega)) (And.intro (vp_in_nI (by omega) (by omega)) (nm_e (nm_e (ih n _ (by omega) (by omega) K))))
theorem wv_xrem {post : Int32 → SX → Prop} (hwl : wl ≤ 20) :
    ∀ (d n i : Nat) (wk : Nat → Int32), d < n → i + 1 + d = wl → post 0 (nI rl, nI ll, nI lc, nI rc, nI (wl - 1), nI w1, w2, jl, cc, pA, pB, sA, sB, sJ, dA, dB, va, au, ho, pl, ro, fp, sp, hi, tl, tx, wv_del wk i d, jo, cd, be, ch) → wX_removeLine_19 post (nI rl) (nI ll) (nI lc) (nI rc) (nI wl) (nI w1) w2 jl cc pA pB sA sB sJ dA dB n (nI (i + 1)) va au ho pl ro fp sp hi tl tx wk jo cd be ch := by
  intro d
  induction d with
  | zero =>
    intro n i wk hn hp K
    cases n with
    | zero => exact absurd hn (Nat.not_lt_zero _)
    | succ n =>
      have e : nI wl - 1 = nI (wl - 1) := pk_sub (b := 1) (by omega)
      exact br_t (nI_le (by omega) (by omega)) (nm_r e K)
  | succ d ih =>
    intro n i wk hn hp K
    cases n with
    | zero => exact absurd hn (Nat.not_lt_zero _)
    | succ n =>
      refine br_f (nI_ge (by omega) (by omega)) ?_
      rw [nI_pred, nI_clamp (n := i) (by omega), nI_clamp (n := i + 1) (by omega), nI_1]
      exact And.intro (vp_in_nI (by omega) (by omega)) (And.intro (vp_in_nI (by omega) (by omega)) (nm_e (nm_e (ih n (i + 1) _ (by omega) (by omega) K))))
theorem wv_xbase {post : Int32 → Prop} {m : Int32} {kn : Nat → Nat → Bool} {a b : Nat} (hm : ∀ k, k < 16 → bt m k = (kn a k && kn b k)) :
    ∀ (q n : Nat), q < 16 → q < n → post (nI (wv_bs kn a b q)) → wX_base_41 post m (nI rl) (nI ll) (nI lc) (nI rc) (nI wl) (nI w1) w2 jl cc pA pB sA sB sJ dA dB va au ho pl ro fp sp hi tl tx wk jo cd be ch n (nI q) := by
  intro q
  induction q with
  | zero =>
    intro n hq hn K
    cases n with
    | zero => exact absurd hn (Nat.not_lt_zero _)
    | succ n => exact br_t (by decide) K
  | succ q ih =>
    intro n hq hn K
    cases n with
    | zero => exact absurd hn (Nat.not_lt_zero _)
    | succ n =>
      refine br_f (nI_nle (by omega) (by omega)) ?_
      rw [wv_bit _ (by omega), hm _ hq]
      refine wv_b_br (fun e => ?_) (fun e => ?_)
      · rw [wv_bs, if_neg (by rw [e]; decide)] at K
        exact nm_r (pk_m1 q) (ih n (by omega) (by omega) K)
      · rw [wv_bs, if_pos e] at K
        exact K
end
section
variable {rl ll rc lc wl w1 : Nat} {w2 jl : Int32} {fp sp sd va au ro wk jo tk : Nat → Int32} {st kn : Nat → Nat → Bool} {am : Nat → Nat} {L : List Nat} {a b : Nat}
theorem wv_ymg19 {post : Int32 → SY → Prop} {len : Nat} (hrc : rc ≤ 16) (hG : wv_G rc kn fp sp) (ha : a < rc) (hb : b < rc) (hlc : lc ≤ 150)
    (hS : ∀ r, r < 16 → ∀ x, x < 150 → sd (r * 150 + x) = wv_b (st r x)) (hA : ∀ x, x < lc → au x = nI (am x) ∧ am x < rc)
    (hL : L.length = lc) (hro : wv_An ro 0 L) (hm : ∀ x, x ∈ L → x < lc) (hlen : len ≤ 20) :
    ∀ (T : List Nat) (n i : Nat) (wk : Nat → Int32), T.length < n → i + T.length = len → wv_An jo i T → (∀ x, x ∈ T → x < 150) →
    post (nI (wv_CL st kn am a b L 0).length) (nI rl, nI ll, nI rc, nI lc, nI len, nI a, nI b, nI len, fp, sp, sd, va, au, ro, wv_fill wk i (T.map va), jo, tk) →
    wY_merge_19 post (nI a) (nI b) (nI rl) (nI ll) (nI rc) (nI lc) (nI w1) w2 (nI len) n (nI i) fp sp sd va au ro wk jo tk := by
  intro T
  induction T with
  | nil =>
    intro n i wk hn hi' hT hmT K
    cases n with
    | zero => exact absurd hn (Nat.not_lt_zero _)
    | succ n =>
      rw [List.length_nil] at hi'
      have e : i = len := by omega
      subst e
      exact br_t (nI_le (by omega) (by omega)) (wv_yconf (st := st) (kn := kn) (am := am) hrc hG ha hb hlc hS hA hL hro hm K)
  | cons t T ih =>
    intro n i wk hn hi' hT hmT K
    cases n with
    | zero => exact absurd hn (Nat.not_lt_zero _)
    | succ n =>
      rw [List.length_cons] at hi' hn
      obtain ⟨h0, h1⟩ := wv_An_cons.mp hT
      have htl := hmT t List.mem_cons_self
      refine br_f (nI_ge (by omega) (by omega)) ?_
      rw [nI_clamp (n := i) (by omega), h0, nI_clamp (n := t) (by omega)]
      exact And.intro (vp_in_nI (by omega) (by omega)) (And.intro (vp_in_nI (by omega) (by omega)) (And.intro (vp_in_nI (by omega) (by omega)) (nm_e (nm_r (nI_1 i) (ih n (i + 1) _ (by omega) (by omega) h1 (fun x hx => hmT x (List.mem_cons_of_mem _ hx)) K)))))
theorem wv_ymerge {post : Int32 → SY → Prop} (hrc : rc ≤ 16) (hG : wv_G rc kn fp sp) (ha : a < rc) (hb : b < rc) (hlc : lc ≤ 150)
    (hS : ∀ r, r < 16 → ∀ x, x < 150 → sd (r * 150 + x) = wv_b (st r x)) (hA : ∀ x, x < lc → au x = nI (am x) ∧ am x < rc)
    (hL : L.length = lc) (hro : wv_An ro 0 L) (hm : ∀ x, x ∈ L → x < lc) (hJ : (L.filter (wv_ij st kn am a b)).length ≤ 20)
    (K : ∀ (jl' : Int32) (jo' : Nat → Int32), post (nI (wv_CL st kn am a b L 0).length) (nI rl, nI ll, nI rc, nI lc, nI (L.filter (wv_ij st kn am a b)).length, nI a, nI b, jl', fp, sp, sd, va, au, ro, wv_fill wk 0 ((L.filter (wv_ij st kn am a b)).map va), jo', tk)) :
    wpY_merge post (nI rl, nI ll, nI rc, nI lc, nI wl, nI w1, w2, jl, fp, sp, sd, va, au, ro, wk, jo, tk) (nI a) (nI b) := by
  rw [wpY_merge]
  refine wv_ylist (kn := kn) (st := st) (am := am) hrc hG ha hb hlc hS hA hL hro hm hJ (fun jo' h => ?_)
  refine br_f (wv_nI_ne (by omega) (by decide)) ⟨(L.filter (wv_ij st kn am a b)).length + 1, ?_⟩
  exact wv_ymg19 hrc hG ha hb hlc hS hA hL hro hm hJ _ _ 0 wk (Nat.lt_succ_self _) (by omega) h (fun x hx => by have := hm x (List.mem_filter.mp hx).1; omega) (K _ _)
theorem wv_ymerge0 {post : Int32 → SY → Prop} {a b : Int32} (hrc : rc ≤ 16) (h : (¬ ∃ k, k < rc ∧ a = nI k) ∨ (¬ ∃ k, k < rc ∧ b = nI k)) (hp : post (-2) (nI rl, nI ll, nI rc, nI lc, nI wl, nI w1, w2, jl, fp, sp, sd, va, au, ro, wk, jo, tk)) : wpY_merge post (nI rl, nI ll, nI rc, nI lc, nI wl, nI w1, w2, jl, fp, sp, sd, va, au, ro, wk, jo, tk) a b := by
  rw [wpY_merge]
  exact wv_ylist0 hrc h (br_t rfl hp)
theorem wv_yins {post : Int32 → SY → Prop} {p : Nat} {v : Int32} :
    ∀ (d n : Nat) (wk : Nat → Int32), d < n → p + d < 20 → post 0 (nI rl, nI ll, nI rc, nI lc, nI (wl + 1), nI w1, w2, jl, fp, sp, sd, va, au, ro, upd (wv_sh wk p d) p v, jo, tk) → wY_insertLine_34 post (nI p) v (nI rl) (nI ll) (nI rc) (nI lc) (nI wl) (nI w1) w2 jl n (nI (p + d)) fp sp sd va au ro wk jo tk := by
  intro d
  induction d with
  | zero =>
    intro n wk hn hp K
    cases n with
    | zero => exact absurd hn (Nat.not_lt_zero _)
    | succ n =>
      refine br_t (nI_le (by omega) (by omega)) ?_
      rw [nI_clamp (n := p) (by omega)]
      exact And.intro (vp_in_nI (by omega) (by omega)) (nm_e (nm_r (nI_1 wl) K))
  | succ d ih =>
    intro n wk hn hp K
    cases n with
    | zero => exact absurd hn (Nat.not_lt_zero _)
    | succ n =>
      have e1 : nI (p + (d + 1)) - 1 = nI (p + d) := nI_pred (p + d)
      have e2 : nI (p + (d + 1)) + (-1) = nI (p + d) := pk_m1 (p + d)
      have e3 : (nI (p + d)).toNatClampNeg = p + d := nI_clamp (by omega)
      have e4 : (nI (p + (d + 1))).toNatClampNeg = p + d + 1 := nI_clamp (by omega)
      refine br_f (nI_ge (by omega) (by omega)) ?_
      rw [e1, e2, e3, e4]
      exact And.intro (vp_in_nI (by omega) (by omega)) (And.intro (vp_in_nI (by omega) (by omega)) (nm_e (nm_e (ih n _ (by omega) (by omega) K))))
theorem wv_yrem {post : Int32 → SY → Prop} (hwl : wl ≤ 20) :
    ∀ (d n i : Nat) (wk : Nat → Int32), d < n → i + 1 + d = wl → post 0 (nI rl, nI ll, nI rc, nI lc, nI (wl - 1), nI w1, w2, jl, fp, sp, sd, va, au, ro, wv_del wk i d, jo, tk) → wY_removeLine_17 post (nI rl) (nI ll) (nI rc) (nI lc) (nI wl) (nI w1) w2 jl n (nI i) fp sp sd va au ro wk jo tk := by
  intro d
  induction d with
  | zero =>
    intro n i wk hn hp K
    cases n with
    | zero => exact absurd hn (Nat.not_lt_zero _)
    | succ n =>
      have e : nI wl - 1 = nI (wl - 1) := pk_sub (b := 1) (by omega)
      exact br_t (by rw [e]; exact nI_le (by omega) (by omega)) (nm_r e K)
  | succ d ih =>
    intro n i wk hn hp K
    cases n with
    | zero => exact absurd hn (Nat.not_lt_zero _)
    | succ n =>
      have e : nI wl - 1 = nI (wl - 1) := pk_sub (b := 1) (by omega)
      refine br_f (by rw [e]; exact nI_ge (by omega) (by omega)) ?_
      rw [nI_1, nI_clamp (n := i) (by omega), nI_clamp (n := i + 1) (by omega)]
      exact And.intro (vp_in_nI (by omega) (by omega)) (And.intro (vp_in_nI (by omega) (by omega)) (nm_e (nm_e (ih n (i + 1) _ (by omega) (by omega) K))))
theorem wv_ybase {post : Int32 → Prop} (hrc : rc ≤ 16) (hG : wv_G rc kn fp sp) (ha : a < rc) (hb : b < rc) :
    ∀ (q n : Nat), q < rc → q < n → post (nI (wv_bs kn a b q)) → wY_base_26 post (nI a) (nI b) (nI rl) (nI ll) (nI rc) (nI lc) (nI wl) (nI w1) w2 jl fp sp sd va au ro wk jo tk n (nI q) := by
  intro q
  induction q with
  | zero =>
    intro n hq hn K
    cases n with
    | zero => exact absurd hn (Nat.not_lt_zero _)
    | succ n => exact br_t (by decide) K
  | succ q ih =>
    intro n hq hn K
    cases n with
    | zero => exact absurd hn (Nat.not_lt_zero _)
    | succ n =>
      refine br_f (nI_nle (by omega) (by omega)) (wv_yhist hrc hG hq ha ?_)
      refine wv_b_br (fun e => ?_) (fun e => wv_yhist hrc hG hq hb (wv_b_br (fun e2 => ?_) (fun e2 => ?_)))
      · rw [wv_bs, if_neg (by rw [e, Bool.false_and]; decide)] at K
        exact nm_r (pk_m1 q) (ih n (by omega) (by omega) K)
      · rw [wv_bs, if_neg (by rw [e2, Bool.and_false]; decide)] at K
        exact nm_r (pk_m1 q) (ih n (by omega) (by omega) K)
      · rw [wv_bs, if_pos (by rw [e, e2]; rfl)] at K
        exact K
theorem wv_yorder_same {post : Int32 → SY → Prop} {x : Int32} (hlc : lc ≤ 150) (K : post 2 (nI rl, nI ll, nI rc, nI lc, nI wl, nI w1, w2, jl, fp, sp, sd, va, au, ro, wk, jo, tk)) :
    ∀ (d n j : Nat), d < n → j + d = lc → wY_order_50 post x x (nI rl) (nI ll) (nI rc) (nI lc) (nI wl) (nI w1) w2 jl fp sp sd va au ro wk jo tk n (nI j) := by
  intro d
  induction d with
  | zero =>
    intro n j hn hj
    cases n with
    | zero => exact absurd hn (Nat.not_lt_zero _)
    | succ n => exact br_t (nI_le (by omega) (by omega)) K
  | succ d ih =>
    intro n j hn hj
    cases n with
    | zero => exact absurd hn (Nat.not_lt_zero _)
    | succ n => exact br_f (nI_ge (by omega) (by omega)) (br_t rfl (nm_r (nI_1 j) (ih n (j + 1) (by omega) (by omega))))
theorem wv_yorder {post : Int32 → SY → Prop} {u v p q : Nat} (hlc : lc ≤ 150) (hL : L.length = lc) (hR : wv_Ro L) (hro : wv_An ro 0 L) (hu : L[p]? = some u) (hv : L[q]? = some v) (huv : ¬ u = v)
    (K1 : p < q → post 1 (nI rl, nI ll, nI rc, nI lc, nI wl, nI w1, w2, jl, fp, sp, sd, va, au, ro, wk, jo, tk)) (K3 : q < p → post 3 (nI rl, nI ll, nI rc, nI lc, nI wl, nI w1, w2, jl, fp, sp, sd, va, au, ro, wk, jo, tk)) :
    ∀ (d n j : Nat), d < n → j + d = lc → j ≤ p → j ≤ q → wY_order_50 post (nI u) (nI v) (nI rl) (nI ll) (nI rc) (nI lc) (nI wl) (nI w1) w2 jl fp sp sd va au ro wk jo tk n (nI j) := by
  have hul := hR.2 u (List.mem_of_getElem? hu)
  have hvl := hR.2 v (List.mem_of_getElem? hv)
  have hpl := wv_lt hu
  have hql := wv_lt hv
  have hne : ¬ nI u = nI v := fun e => huv ((nI_eq (by omega) (by omega)).mp e)
  intro d
  induction d with
  | zero =>
    intro n j hn hj hp hq
    omega
  | succ d ih =>
    intro n j hn hj hp hq
    cases n with
    | zero => exact absurd hn (Nat.not_lt_zero _)
    | succ n =>
      obtain ⟨x, hx⟩ := wv_get_or L (by omega : j < L.length)
      have hxl := hR.2 x (List.mem_of_getElem? hx)
      have hrx : ro j = nI x := by have := wv_An_get hro hx; rw [Nat.zero_add] at this; exact this
      have hvj : vp_in (nI j) 150 := vp_in_nI (by omega) (by omega)
      have ej : (nI j).toNatClampNeg = j := nI_clamp (by omega)
      refine br_f (nI_ge (by omega) (by omega)) (br_f hne ?_)
      rw [ej, hrx]
      refine And.intro hvj (pk_eq x u (fun e => ?_) (fun e => And.intro hvj (pk_eq x v (fun e2 => ?_) (fun e2 => ?_))))
      · subst e
        have ejp := wv_nd_inj hR.1 hx hu
        have : ¬ p = q := fun e => huv (Option.some.inj (by rw [← hu, ← hv, e]))
        rw [wY_order_90, ej, hrx]
        exact And.intro hvj (br_t rfl (K1 (by omega)))
      · subst e2
        have ejp := wv_nd_inj hR.1 hx hv
        have : ¬ p = q := fun e => huv (Option.some.inj (by rw [← hu, ← hv, e]))
        rw [wY_order_90, ej, hrx]
        exact And.intro hvj (br_f (fun z => e ((nI_eq (by omega) (by omega)).mp z)) (K3 (by omega)))
      · have h1 : ¬ j = p := fun z => e (Option.some.inj (by rw [← hx, ← hu, z]))
        have h2 : ¬ j = q := fun z => e2 (Option.some.inj (by rw [← hx, ← hv, z]))
        exact nm_r (nI_1 j) (ih n (j + 1) (by omega) (by omega) (by omega) (by omega))
end
end
section
/-! the relation -/
def wv_B (rl ll lc rc wl w1 : Nat) (w2 : Int32) : Prop :=
  2 ≤ rl ∧ rl ≤ 16 ∧ 2 ≤ ll ∧ ll ≤ 10 ∧ 1 ≤ rc ∧ rc ≤ rl ∧ lc ≤ 10 * (rc - 1) ∧ wl ≤ 20 ∧ w1 < rc ∧ (w2 = -1 ∨ ∃ s, s < rc ∧ w2 = nI s)
def wv_I (rl ll lc rc wl w1 : Nat) (w2 : Int32) (au ho pl ro fp sp hi tl tx sd : Nat → Int32) (L : List Nat) (st kn : Nat → Nat → Bool) (am : Nat → Nat) : Prop :=
  wv_B rl ll lc rc wl w1 w2 ∧ L.length = lc ∧ wv_Ro L ∧ wv_An ro 0 L ∧ wv_Pl pl L ∧
  (∀ x, x < lc → au x = nI (am x) ∧ am x < rc) ∧
  (∀ x, x < lc → ∀ r, r < 16 → bt (ho x) r = st r x) ∧
  (∀ r, r < 16 → ∀ x, x < 150 → sd (r * 150 + x) = wv_b (st r x)) ∧
  (∀ r x, st r x = true → r < rc ∧ x < lc) ∧
  (∀ r, r < rc → ∀ k, k < 16 → bt (hi r) k = kn r k) ∧
  wv_G rc kn fp sp ∧
  (∀ r, r < rc → tl r = nI (L.filter (st r)).length ∧ (L.filter (st r)).length ≤ 10 ∧ wv_An tx (r * 10) (L.filter (st r)))
def i_Rel (k : Nat) (u : SX) (v : SY) : Prop := ∀ P : SX → SY → Prop,
  (∀ (rl ll lc rc wl w1 : Nat) (w2 jl cc pA pB sA sB sJ dA dB jl2 : Int32) (va au ho pl ro fp sp hi tl tx wk jo cd be ch sd jo2 tk : Nat → Int32) (L : List Nat) (st kn : Nat → Nat → Bool) (am : Nat → Nat),
    wv_I rl ll lc rc wl w1 w2 au ho pl ro fp sp hi tl tx sd L st kn am → P (nI rl, nI ll, nI lc, nI rc, nI wl, nI w1, w2, jl, cc, pA, pB, sA, sB, sJ, dA, dB, va, au, ho, pl, ro, fp, sp, hi, tl, tx, wk, jo, cd, be, ch) (nI rl, nI ll, nI rc, nI lc, nI wl, nI w1, w2, jl2, fp, sp, sd, va, au, ro, wk, jo2, tk)) → P u v
theorem i_up {k : Nat} {u : SX} {v : SY} (h : i_Rel k u v) : i_Rel (k + 5) u v := h
theorem wv_in {k rl ll lc rc wl w1 : Nat} {w2 jl cc pA pB sA sB sJ dA dB jl2 : Int32} {va au ho pl ro fp sp hi tl tx wk jo cd be ch sd jo2 tk : Nat → Int32} {L : List Nat} {st kn : Nat → Nat → Bool} {am : Nat → Nat}
    (h : wv_I rl ll lc rc wl w1 w2 au ho pl ro fp sp hi tl tx sd L st kn am) : i_Rel k (nI rl, nI ll, nI lc, nI rc, nI wl, nI w1, w2, jl, cc, pA, pB, sA, sB, sJ, dA, dB, va, au, ho, pl, ro, fp, sp, hi, tl, tx, wk, jo, cd, be, ch) (nI rl, nI ll, nI rc, nI lc, nI wl, nI w1, w2, jl2, fp, sp, sd, va, au, ro, wk, jo2, tk) :=
  fun _ H => H _ _ _ _ _ _ _ _ _ _ _ _ _ _ _ _ _ _ _ _ _ _ _ _ _ _ _ _ _ _ _ _ _ _ _ _ _ _ _ h
/-- the work length, the workspace's parents may change -/
theorem wv_I_work {rl ll lc rc wl w1 wl' w1' : Nat} {w2 w2' : Int32} {au ho pl ro fp sp hi tl tx sd : Nat → Int32} {L : List Nat} {st kn : Nat → Nat → Bool} {am : Nat → Nat}
    (h : wv_I rl ll lc rc wl w1 w2 au ho pl ro fp sp hi tl tx sd L st kn am) (h1 : wl' ≤ 20) (h2 : w1' < rc) (h3 : w2' = -1 ∨ ∃ s, s < rc ∧ w2' = nI s) :
    wv_I rl ll lc rc wl' w1' w2' au ho pl ro fp sp hi tl tx sd L st kn am := by
  obtain ⟨⟨b1, b2, b3, b4, b5, b6, b7, _, _, _⟩, h⟩ := h
  exact ⟨⟨b1, b2, b3, b4, b5, b6, b7, h1, h2, h3⟩, h⟩
section
variable {rl ll lc rc wl w1 : Nat} {w2 : Int32} {au ho pl ro fp sp hi tl tx sd : Nat → Int32} {L : List Nat} {st kn : Nat → Nat → Bool} {am : Nat → Nat}
theorem wv_I_lc (h : wv_I rl ll lc rc wl w1 w2 au ho pl ro fp sp hi tl tx sd L st kn am) : rc ≤ 16 ∧ lc ≤ 150 ∧ (∀ x, x ∈ L → x < lc) := by
  obtain ⟨⟨b1, b2, b3, b4, b5, b6, b7, _, _, _⟩, hL, hR, _⟩ := h
  exact ⟨by omega, by omega, fun x hx => hL ▸ hR.2 x hx⟩
theorem wv_I_J (h : wv_I rl ll lc rc wl w1 w2 au ho pl ro fp sp hi tl tx sd L st kn am) {a b : Nat} (ha : a < rc) (hb : b < rc) : (L.filter (wv_ij st kn am a b)).length ≤ 20 := by
  obtain ⟨_, _, _, _, _, _, _, _, _, _, _, hX⟩ := h
  have h1 := (hX a ha).2.1
  have h2 := (hX b hb).2.1
  rw [wv_filt_len] at h1 h2 ⊢
  have := wv_count2 (p := wv_ij st kn am a b) (q := st a) (r := st b) (fun x hx => ?_) L
  · omega
  · unfold wv_ij at hx
    cases e1 : st a x with
    | true => exact Or.inl rfl
    | false =>
      rw [if_neg (by rw [e1]; decide), Bool.and_eq_true] at hx
      exact Or.inr hx.1
theorem wv_I_CF (h : wv_I rl ll lc rc wl w1 w2 au ho pl ro fp sp hi tl tx sd L st kn am) {a b : Nat} (ha : a < rc) (hb : b < rc) :
    wv_CF st kn am a b L 0 0 0 0 0 0 false false = (wv_CL st kn am a b L 0).map (wv_six (wv_cm st a b) (st a) (st b) (wv_ij st kn am a b) L) := by
  obtain ⟨_, _, _, _, _, _, _, _, _, _, _, hX⟩ := h
  have h1 := (hX a ha).2.1
  rw [wv_filt_len] at h1
  have hc : ∀ x, wv_cm st a b x = true → st a x = true ∧ st b x = true := fun x hx => by
    unfold wv_cm at hx
    exact Bool.and_eq_true_iff.mp hx
  refine wv_cf_top (fun x hx => (hc x hx).1) (fun x hx => (hc x hx).2) (fun x hx => wv_ij_2 (hc x hx).1 (hc x hx).2) L ?_
  exact Nat.le_trans (List.countP_mono_left (fun x _ hx => (hc x hx).1)) h1
theorem wv_I_CFl (h : wv_I rl ll lc rc wl w1 w2 au ho pl ro fp sp hi tl tx sd L st kn am) {a b : Nat} (ha : a < rc) (hb : b < rc) :
    (wv_CF st kn am a b L 0 0 0 0 0 0 false false).length = (wv_CL st kn am a b L 0).length ∧ (wv_CL st kn am a b L 0).length ≤ 11 := by
  rw [wv_I_CF h ha hb, List.length_map]
  exact ⟨rfl, wv_cl_len L⟩
end
def wv_cla (p lo hi : Int32) : Int32 := if lo ≤ p then (if p ≤ hi then p else hi) else lo
theorem wv_cla_n (p : Int32) (n : Nat) (hn : 2 ≤ n) (hn2 : n < 100) : ∃ m, 2 ≤ m ∧ m ≤ n ∧ wv_cla p 2 (nI n) = nI m := by
  unfold wv_cla
  by_cases h1 : 2 ≤ p
  · rw [if_pos h1]
    have h0 : ¬ p < 0 := fun z => absurd (Int32.lt_of_le_of_lt h1 z) (by decide)
    obtain ⟨j, hj, rfl⟩ := nI_of h0
    have h2 : 2 ≤ j := (nI_leI (a := 2) (by omega) hj).mp h1
    by_cases h3 : nI j ≤ nI n
    · rw [if_pos h3]
      exact ⟨j, h2, (nI_leI hj (by omega)).mp h3, rfl⟩
    · rw [if_neg h3]
      exact ⟨n, hn, Nat.le_refl _, rfl⟩
  · rw [if_neg h1]
    exact ⟨2, Nat.le_refl _, hn, rfl⟩
theorem wv_xclamp {post : Int32 → Prop} {p lo hi : Int32} (u : SX) (K : post (wv_cla p lo hi)) : wpX_clamp post u p lo hi := by
  unfold wv_cla at K
  show (lo ≤ p → ((p ≤ hi → post p) ∧ (¬ p ≤ hi → post hi))) ∧ (¬ lo ≤ p → post lo)
  by_cases h1 : lo ≤ p
  · rw [if_pos h1] at K
    by_cases h2 : p ≤ hi
    · rw [if_pos h2] at K
      exact br_t h1 (br_t h2 K)
    · rw [if_neg h2] at K
      exact br_t h1 (br_f h2 K)
  · rw [if_neg h1] at K
    exact br_f h1 K
theorem wv_yini112 {post : SY → Prop} {p z : Int32} (K : post (z, wv_cla p 2 10, 1, 0, 0, 0, (-1), 0, upd (fun _ => 0) 0 (-1), upd (fun _ => 0) 0 (-1), (fun _ => 0), (fun _ => 0), (fun _ => 0), (fun _ => 0), (fun _ => 0), (fun _ => 0), (fun _ => 0))) :
    wY_init_112 post p z 0 0 1 0 0 0 (-1) 0 (fun _ => 0) (fun _ => 0) (fun _ => 0) (fun _ => 0) (fun _ => 0) (fun _ => 0) (fun _ => 0) (fun _ => 0) (fun _ => 0) := by
  unfold wv_cla at K
  by_cases h1 : 2 ≤ p
  · rw [if_pos h1] at K
    by_cases h2 : p ≤ 10
    · rw [if_pos h2] at K
      exact br_t h1 (br_t h2 (nm_e (nm_e K)))
    · rw [if_neg h2] at K
      exact br_t h1 (br_f h2 (nm_e (nm_e K)))
  · rw [if_neg h1] at K
    exact br_f h1 (nm_e (nm_e K))
theorem wv_yini {post : SY → Prop} {p q : Int32} (K : post (wv_cla p 2 16, wv_cla q 2 10, 1, 0, 0, 0, (-1), 0, upd (fun _ => 0) 0 (-1), upd (fun _ => 0) 0 (-1), (fun _ => 0), (fun _ => 0), (fun _ => 0), (fun _ => 0), (fun _ => 0), (fun _ => 0), (fun _ => 0))) :
    wpY_init post p q := by
  have e : wv_cla p 2 16 = if 2 ≤ p then (if p ≤ 16 then p else 16) else 2 := rfl
  rw [e] at K
  by_cases h1 : 2 ≤ p
  · rw [if_pos h1] at K
    by_cases h2 : p ≤ 16
    · rw [if_pos h2] at K
      exact br_t h1 (br_t h2 (wv_yini112 K))
    · rw [if_neg h2] at K
      exact br_t h1 (br_f h2 (wv_yini112 K))
  · rw [if_neg h1] at K
    exact br_f h1 (wv_yini112 K)
theorem wv_I_0 {rl ll : Nat} (h1 : 2 ≤ rl) (h2 : rl ≤ 16) (h3 : 2 ≤ ll) (h4 : ll ≤ 10) :
    wv_I rl ll 0 1 0 0 (-1) (fun _ => 0) (fun _ => 0) (fun _ => 0) (fun _ => 0) (upd (fun _ => 0) 0 (-1)) (upd (fun _ => 0) 0 (-1)) (upd (fun _ => 0) 0 1) (fun _ => 0) (fun _ => 0) (fun _ => 0)
      [] (fun _ _ => false) (fun _ k => decide (k = 0)) (fun _ => 0) := by
  refine ⟨⟨h1, h2, h3, h4, by omega, by omega, by omega, by omega, by omega, Or.inl rfl⟩, rfl, ⟨List.nodup_nil, fun x hx => nomatch hx⟩, wv_An_nil, fun j x h => absurd (wv_lt h) (Nat.not_lt_zero _),
    fun x hx => absurd hx (Nat.not_lt_zero _), fun x hx => absurd hx (Nat.not_lt_zero _), fun _ _ _ _ => rfl, fun _ _ h => (nomatch h), fun r hr k hk => ?_, ⟨fun k => rfl, fun r h0 h1 => by omega⟩, fun r hr => ⟨rfl, Nat.zero_le _, wv_An_nil⟩⟩
  have e : r = 0 := by omega
  subst e
  rw [pk_us]
  exact wv_bt1 k (by omega)
theorem i_vc0 (k0 : Int32) (k1 : Int32) : wpX_init (fun u => wpY_init (fun v => i_Rel 2 u v) k0 k1) k0 k1 := by
  rw [wpX_init]
  refine wv_xclamp _ (wv_xclamp _ (nm_e (nm_e (nm_e (wv_yini ?_)))))
  obtain ⟨rl, r1, r2, er⟩ := wv_cla_n k0 16 (by omega) (by omega)
  obtain ⟨ll, l1, l2, el⟩ := wv_cla_n k1 10 (by omega) (by omega)
  rw [show wv_cla k0 2 16 = nI rl from er, show wv_cla k1 2 10 = nI ll from el]
  exact wv_in (lc := 0) (rc := 1) (wl := 0) (w1 := 0) (wv_I_0 r1 r2 l1 l2)
end
section
/-! the owed statements: workspace and reading methods -/
theorem i_vc_setLine {k : Nat} {u : SX} {v : SY} (I : i_Rel k u v) (hk : k + 5 ≤ 2562) (v1 : Int32) (v2 : Int32) : wpX_setLine (fun r u' => wpY_setLine (fun r' v' => r' = r ∧ i_Rel (k + 5) u' v') v v1 v2) u v1 v2 := by
  refine I (fun u v => wpX_setLine (fun r u' => wpY_setLine (fun r' v' => r' = r ∧ i_Rel (k + 5) u' v') v v1 v2) u v1 v2) ?_
  clear I
  intro rl ll lc rc wl w1 w2 jl cc pA pB sA sB sJ dA dB jl2 va au ho pl ro fp sp hi tl tx wk jo cd be ch sd jo2 tk L st kn am h
  have hwl := h.1.2.2.2.2.2.2.2.1
  by_cases z1 : v1 < 0
  · exact br_t z1 (br_t z1 ⟨rfl, wv_in h⟩)
  · by_cases z2 : v1 < nI wl
    · obtain ⟨j, hj, rfl⟩ := nI_of z1
      have hjl := (nI_ltI hj (by omega)).mp z2
      have hv : vp_in (nI j) 20 := vp_in_nI (by omega) (by omega)
      exact br_f z1 (br_t z2 (And.intro hv (nm_e (br_f z1 (br_t z2 (And.intro hv (nm_e ⟨rfl, wv_in h⟩)))))))
    · exact br_f z1 (br_f z2 (br_f z1 (br_f z2 ⟨rfl, wv_in h⟩)))
theorem i_vc_insertLine {k : Nat} {u : SX} {v : SY} (I : i_Rel k u v) (hk : k + 5 ≤ 2562) (v1 : Int32) (v2 : Int32) : wpX_insertLine (fun r u' => wpY_insertLine (fun r' v' => r' = r ∧ i_Rel (k + 5) u' v') v v1 v2) u v1 v2 := by
  refine I (fun u v => wpX_insertLine (fun r u' => wpY_insertLine (fun r' v' => r' = r ∧ i_Rel (k + 5) u' v') v v1 v2) u v1 v2) ?_
  clear I
  intro rl ll lc rc wl w1 w2 jl cc pA pB sA sB sJ dA dB jl2 va au ho pl ro fp sp hi tl tx wk jo cd be ch sd jo2 tk L st kn am h
  obtain ⟨b1, b2, b3, b4, b5, b6, b7, b8, b9, b10⟩ := h.1
  by_cases z1 : v1 < 0
  · exact br_t z1 (br_t z1 ⟨rfl, wv_in h⟩)
  · by_cases z2 : v1 ≤ nI wl
    · by_cases z3 : nI wl < nI ll
      · obtain ⟨p, hp, rfl⟩ := nI_of z1
        have hpl := (nI_leI hp (by omega)).mp z2
        have hwl := (nI_ltI (by omega) (by omega)).mp z3
        obtain ⟨d, rfl⟩ : ∃ d, wl = p + d := ⟨wl - p, by omega⟩
        refine br_f z1 (br_t z2 (br_t z3 ⟨d + 1, wv_xins d (d + 1) wk (Nat.lt_succ_self _) (by omega) ?_⟩))
        refine br_f z1 (br_t z2 (br_t z3 ⟨d + 1, wv_yins d (d + 1) wk (Nat.lt_succ_self _) (by omega) ?_⟩))
        exact ⟨rfl, wv_in (wv_I_work h (by omega) b9 b10)⟩
      · exact br_f z1 (br_t z2 (br_f z3 (br_f z1 (br_t z2 (br_f z3 ⟨rfl, wv_in h⟩)))))
    · exact br_f z1 (br_f z2 (br_f z1 (br_f z2 ⟨rfl, wv_in h⟩)))
theorem i_vc_removeLine {k : Nat} {u : SX} {v : SY} (I : i_Rel k u v) (hk : k + 5 ≤ 2562) (v1 : Int32) : wpX_removeLine (fun r u' => wpY_removeLine (fun r' v' => r' = r ∧ i_Rel (k + 5) u' v') v v1) u v1 := by
  refine I (fun u v => wpX_removeLine (fun r u' => wpY_removeLine (fun r' v' => r' = r ∧ i_Rel (k + 5) u' v') v v1) u v1) ?_
  clear I
  intro rl ll lc rc wl w1 w2 jl cc pA pB sA sB sJ dA dB jl2 va au ho pl ro fp sp hi tl tx wk jo cd be ch sd jo2 tk L st kn am h
  obtain ⟨b1, b2, b3, b4, b5, b6, b7, b8, b9, b10⟩ := h.1
  by_cases z1 : v1 < 0
  · exact br_t z1 (br_t z1 ⟨rfl, wv_in h⟩)
  · by_cases z2 : v1 < nI wl
    · obtain ⟨p, hp, rfl⟩ := nI_of z1
      have hpl := (nI_ltI hp (by omega)).mp z2
      obtain ⟨d, hd⟩ : ∃ d, p + 1 + d = wl := ⟨wl - p - 1, by omega⟩
      refine br_f z1 (br_t z2 (nm_r (nI_1 p) ⟨d + 1, wv_xrem b8 d (d + 1) p wk (Nat.lt_succ_self _) hd ?_⟩))
      refine br_f z1 (br_t z2 ⟨d + 1, wv_yrem b8 d (d + 1) p wk (Nat.lt_succ_self _) hd ?_⟩)
      exact ⟨rfl, wv_in (wv_I_work h (by omega) b9 b10)⟩
    · exact br_f z1 (br_f z2 (br_f z1 (br_f z2 ⟨rfl, wv_in h⟩)))
theorem i_vc_revisions {k : Nat} {u : SX} {v : SY} (I : i_Rel k u v) (hk : k + 5 ≤ 2562) : wpX_revisions (fun r => wpY_revisions (fun r' => r' = r ∧ i_Rel (k + 5) u v) v) u := by
  refine I (fun u v => wpX_revisions (fun r => wpY_revisions (fun r' => r' = r ∧ i_Rel (k + 5) u v) v) u) ?_
  clear I
  intro rl ll lc rc wl w1 w2 jl cc pA pB sA sB sJ dA dB jl2 va au ho pl ro fp sp hi tl tx wk jo cd be ch sd jo2 tk L st kn am h
  exact ⟨rfl, wv_in h⟩
theorem i_vc_parent {k : Nat} {u : SX} {v : SY} (I : i_Rel k u v) (hk : k + 5 ≤ 2562) (v1 : Int32) (v2 : Int32) : wpX_parent (fun r => wpY_parent (fun r' => r' = r ∧ i_Rel (k + 5) u v) v v1 v2) u v1 v2 := by
  refine I (fun u v => wpX_parent (fun r => wpY_parent (fun r' => r' = r ∧ i_Rel (k + 5) u v) v v1 v2) u v1 v2) ?_
  clear I
  intro rl ll lc rc wl w1 w2 jl cc pA pB sA sB sJ dA dB jl2 va au ho pl ro fp sp hi tl tx wk jo cd be ch sd jo2 tk L st kn am h
  obtain ⟨hrc, hlc, hm⟩ := wv_I_lc h
  by_cases z0 : v2 = 0
  · by_cases e : v1 = -1
    · exact br_t z0 (br_t e (br_t z0 (br_t z0 (br_t e (br_t e (br_t z0 ⟨rfl, wv_in h⟩))))))
    · by_cases hr : ∃ k, k < rc ∧ v1 = nI k
      · obtain ⟨r, hr, rfl⟩ := hr
        have hv : vp_in (nI r) 16 := vp_in_nI (by omega) (by omega)
        refine br_t z0 (br_f e (wv_xrev1 hrc hr (br_f (by decide) (br_t z0 (And.intro hv ?_)))))
        exact br_t z0 (br_f e (wv_yrev1 hrc hr (br_f (by decide) (br_f e (br_t z0 (And.intro hv ⟨rfl, wv_in h⟩))))))
      · refine br_t z0 (br_f e (wv_xrev0 hrc hr (br_t rfl ?_)))
        exact br_t z0 (br_f e (wv_yrev0 hrc hr (br_t rfl ⟨rfl, wv_in h⟩)))
  · by_cases z1 : v2 = 1
    · by_cases e : v1 = -1
      · exact br_f z0 (br_t z1 (br_t e (br_f z0 (br_f z0 (br_t z1 (br_t e (br_t e (br_f z0 ⟨rfl, wv_in h⟩))))))))
      · by_cases hr : ∃ k, k < rc ∧ v1 = nI k
        · obtain ⟨r, hr, rfl⟩ := hr
          have hv : vp_in (nI r) 16 := vp_in_nI (by omega) (by omega)
          refine br_f z0 (br_t z1 (br_f e (wv_xrev1 hrc hr (br_f (by decide) (br_f z0 (And.intro hv ?_))))))
          exact br_f z0 (br_t z1 (br_f e (wv_yrev1 hrc hr (br_f (by decide) (br_f e (br_f z0 (And.intro hv ⟨rfl, wv_in h⟩)))))))
        · refine br_f z0 (br_t z1 (br_f e (wv_xrev0 hrc hr (br_t rfl ?_))))
          exact br_f z0 (br_t z1 (br_f e (wv_yrev0 hrc hr (br_t rfl ⟨rfl, wv_in h⟩))))
    · exact br_f z0 (br_f z1 (br_f z0 (br_f z1 ⟨rfl, wv_in h⟩)))
theorem i_vc_inHistory {k : Nat} {u : SX} {v : SY} (I : i_Rel k u v) (hk : k + 5 ≤ 2562) (v1 : Int32) (v2 : Int32) : wpX_inHistory (fun r => wpY_inHistory (fun r' => r' = r ∧ i_Rel (k + 5) u v) v v1 v2) u v1 v2 := by
  refine I (fun u v => wpX_inHistory (fun r => wpY_inHistory (fun r' => r' = r ∧ i_Rel (k + 5) u v) v v1 v2) u v1 v2) ?_
  clear I
  intro rl ll lc rc wl w1 w2 jl cc pA pB sA sB sJ dA dB jl2 va au ho pl ro fp sp hi tl tx wk jo cd be ch sd jo2 tk L st kn am h
  obtain ⟨hrc, hlc, hm⟩ := wv_I_lc h
  obtain ⟨_, _, _, _, _, _, _, _, _, hK, hG, _⟩ := id h
  show wpX_inHistory _ (nI rl, nI ll, nI lc, nI rc, nI wl, nI w1, w2, jl, cc, pA, pB, sA, sB, sJ, dA, dB, va, au, ho, pl, ro, fp, sp, hi, tl, tx, wk, jo, cd, be, ch) v1 v2
  rw [wpX_inHistory]
  by_cases h1 : ∃ k, k < rc ∧ v1 = nI k
  · obtain ⟨a, ha, rfl⟩ := h1
    refine wv_xrev1 hrc ha (br_f (by decide) ?_)
    by_cases h2 : ∃ k, k < rc ∧ v2 = nI k
    · obtain ⟨r, hr, rfl⟩ := h2
      refine wv_xrev1 hrc hr (br_f (by decide) (wv_xknows (by omega) (by omega) (hK r hr a (by omega)) ?_))
      exact wv_b_br (fun e => wv_yhist hrc hG ha hr ⟨by rw [e]; rfl, wv_in h⟩) (fun e => wv_yhist hrc hG ha hr ⟨by rw [e]; rfl, wv_in h⟩)
    · refine wv_xrev0 hrc h2 (br_t rfl ?_)
      rw [wpY_inHistory]
      exact wv_yrev1 hrc ha (br_f (by decide) (wv_yrev0 hrc h2 (br_t rfl ⟨rfl, wv_in h⟩)))
  · refine wv_xrev0 hrc h1 (br_t rfl ?_)
    rw [wpY_inHistory]
    exact wv_yrev0 hrc h1 (br_t rfl ⟨rfl, wv_in h⟩)
theorem i_vc_base {k : Nat} {u : SX} {v : SY} (I : i_Rel k u v) (hk : k + 5 ≤ 2562) (v1 : Int32) (v2 : Int32) : wpX_base (fun r => wpY_base (fun r' => r' = r ∧ i_Rel (k + 5) u v) v v1 v2) u v1 v2 := by
  refine I (fun u v => wpX_base (fun r => wpY_base (fun r' => r' = r ∧ i_Rel (k + 5) u v) v v1 v2) u v1 v2) ?_
  clear I
  intro rl ll lc rc wl w1 w2 jl cc pA pB sA sB sJ dA dB jl2 va au ho pl ro fp sp hi tl tx wk jo cd be ch sd jo2 tk L st kn am h
  obtain ⟨hrc, hlc, hm⟩ := wv_I_lc h
  obtain ⟨⟨_, _, _, _, b5, _⟩, _, _, _, _, _, _, _, _, hK, hG, _⟩ := id h
  show wpX_base _ (nI rl, nI ll, nI lc, nI rc, nI wl, nI w1, w2, jl, cc, pA, pB, sA, sB, sJ, dA, dB, va, au, ho, pl, ro, fp, sp, hi, tl, tx, wk, jo, cd, be, ch) v1 v2
  rw [wpX_base]
  by_cases h1 : ∃ k, k < rc ∧ v1 = nI k
  · obtain ⟨a, ha, rfl⟩ := h1
    refine wv_xrev1 hrc ha (br_f (by decide) ?_)
    by_cases h2 : ∃ k, k < rc ∧ v2 = nI k
    · obtain ⟨b, hb, rfl⟩ := h2
      have e1 : nI rc - 1 = nI (rc - 1) := pk_sub (b := 1) (by omega)
      refine wv_xrev1 hrc hb (br_f (by decide) ?_)
      rw [nI_clamp (n := a) (by omega), nI_clamp (n := b) (by omega), e1]
      refine And.intro (vp_in_nI (by omega) (by omega)) (And.intro (vp_in_nI (by omega) (by omega)) (nm_e (nm_e ⟨rc, wv_xbase (kn := kn) (a := a) (b := b) (fun j hj => ?_) (rc - 1) rc (by omega) (by omega) ?_⟩)))
      · rw [b_and, hK a ha j hj, hK b hb j hj]
      · rw [wpY_base]
        refine wv_yrev1 hrc ha (br_f (by decide) (wv_yrev1 hrc hb (br_f (by decide) (nm_r e1 ⟨rc, wv_ybase hrc hG ha hb (rc - 1) rc (by omega) (by omega) ?_⟩))))
        exact ⟨rfl, wv_in h⟩
    · refine wv_xrev0 hrc h2 (br_t rfl ?_)
      rw [wpY_base]
      exact wv_yrev1 hrc ha (br_f (by decide) (wv_yrev0 hrc h2 (br_t rfl ⟨rfl, wv_in h⟩)))
  · refine wv_xrev0 hrc h1 (br_t rfl ?_)
    rw [wpY_base]
    exact wv_yrev0 hrc h1 (br_t rfl ⟨rfl, wv_in h⟩)
theorem wv_not_m1 {rc : Nat} (hrc : rc ≤ 16) {v1 : Int32} (h : ∃ k, k < rc ∧ v1 = nI k) : ¬ v1 = -1 := by
  obtain ⟨k, hk, rfl⟩ := h
  exact wv_nI_ne (by omega) wv_neg1
theorem i_vc_length {k : Nat} {u : SX} {v : SY} (I : i_Rel k u v) (hk : k + 5 ≤ 2562) (v1 : Int32) : wpX_length (fun r => wpY_length (fun r' v' => r' = r ∧ i_Rel (k + 5) u v') v v1) u v1 := by
  refine I (fun u v => wpX_length (fun r => wpY_length (fun r' v' => r' = r ∧ i_Rel (k + 5) u v') v v1) u v1) ?_
  clear I
  intro rl ll lc rc wl w1 w2 jl cc pA pB sA sB sJ dA dB jl2 va au ho pl ro fp sp hi tl tx wk jo cd be ch sd jo2 tk L st kn am h
  obtain ⟨hrc, hlc, hm⟩ := wv_I_lc h
  obtain ⟨_, hL, hR, hro, _, hA, _, hS, _, _, hG, hX⟩ := id h
  by_cases e : v1 = -1
  · exact br_t e (br_t e ⟨rfl, wv_in h⟩)
  · refine br_f e ?_
    by_cases h1 : ∃ k, k < rc ∧ v1 = nI k
    · obtain ⟨a, ha, rfl⟩ := h1
      obtain ⟨x1, x2, x3⟩ := hX a ha
      refine wv_xrev1 hrc ha (br_f (by decide) (And.intro (vp_in_nI (by omega) (by omega)) ?_))
      rw [nI_clamp (n := a) (by omega), x1]
      refine br_f e (wv_ylist (kn := kn) (st := st) (am := am) hrc hG ha ha hlc hS hA hL hro hm (wv_I_J h ha ha) (fun jo' _ => ?_))
      exact ⟨by rw [wv_ij_filt], wv_in h⟩
    · exact wv_xrev0 hrc h1 (br_t rfl (br_f e (wv_ylist0 hrc (Or.inl h1) ⟨rfl, wv_in h⟩)))
theorem i_vc_line {k : Nat} {u : SX} {v : SY} (I : i_Rel k u v) (hk : k + 5 ≤ 2562) (v1 : Int32) (v2 : Int32) : wpX_line (fun r => wpY_line (fun r' v' => r' = r ∧ i_Rel (k + 5) u v') v v1 v2) u v1 v2 := by
  refine I (fun u v => wpX_line (fun r => wpY_line (fun r' v' => r' = r ∧ i_Rel (k + 5) u v') v v1 v2) u v1 v2) ?_
  clear I
  intro rl ll lc rc wl w1 w2 jl cc pA pB sA sB sJ dA dB jl2 va au ho pl ro fp sp hi tl tx wk jo cd be ch sd jo2 tk L st kn am h
  obtain ⟨hrc, hlc, hm⟩ := wv_I_lc h
  obtain ⟨⟨_, _, _, _, _, _, _, b8, _, _⟩, hL, hR, hro, _, hA, _, hS, _, _, hG, hX⟩ := id h
  by_cases e : v1 = -1
  · by_cases z1 : v2 < 0
    · exact br_t e (br_t z1 (br_t e (br_t z1 ⟨rfl, wv_in h⟩)))
    · by_cases z2 : nI wl ≤ v2
      · exact br_t e (br_f z1 (br_t z2 (br_t e (br_f z1 (br_t z2 ⟨rfl, wv_in h⟩)))))
      · obtain ⟨j, hj, rfl⟩ := nI_of z1
        have hjl : j < wl := by
          rcases Nat.lt_or_ge j wl with z | z
          · exact z
          · exact absurd (nI_le z hj) z2
        have hv : vp_in (nI j) 20 := vp_in_nI (by omega) (by omega)
        exact br_t e (br_f z1 (br_f z2 (And.intro hv (br_t e (br_f z1 (br_f z2 (And.intro hv ⟨rfl, wv_in h⟩)))))))
  · refine br_f e ?_
    by_cases h1 : ∃ k, k < rc ∧ v1 = nI k
    · obtain ⟨a, ha, rfl⟩ := h1
      obtain ⟨x1, x2, x3⟩ := hX a ha
      refine wv_xrev1 hrc ha (br_f (by decide) ?_)
      by_cases h2 : ∃ j, j < (L.filter (st a)).length ∧ v2 = nI j
      · obtain ⟨j, hj, rfl⟩ := h2
        obtain ⟨x, hx⟩ := wv_get_or _ hj
        have hxl := hm x (List.mem_filter.mp (List.mem_of_getElem? hx)).1
        have ex : nI a * 10 + nI j = nI (a * 10 + j) := by rw [wv_m10, nI_add]
        refine wv_xpos1 (by omega) x2 x1 hj (br_f (by decide) ?_)
        rw [ex, nI_clamp (n := a * 10 + j) (by omega), wv_An_get x3 hx, nI_clamp (n := x) (by omega)]
        refine And.intro (vp_in_nI (by omega) (by omega)) (And.intro (vp_in_nI (by omega) (by omega)) ?_)
        refine br_f e (wv_yat hrc hG ha hlc hS hA hL hro hm (by omega) (fun z => absurd ⟨j, hj, rfl⟩ z) (fun j' x' hx' ej jl' jo' => ?_))
        have ejj : j = j' := (nI_eq (by omega) (by have := wv_lt hx'; omega)).mp ej
        subst ejj
        rw [hx] at hx'
        cases hx'
        refine br_t (nI_pos' (by omega)) (And.intro (vp_in_nI (by omega) (by omega)) ?_)
        rw [nI_clamp (n := x) (by omega)]
        exact ⟨rfl, wv_in h⟩
      · refine wv_xpos0 (by omega) x2 x1 h2 (br_t rfl ?_)
        refine br_f e (wv_yat hrc hG ha hlc hS hA hL hro hm (by omega) (fun _ jl' jo' => ?_) (fun j' x' hx' ej => absurd ⟨j', wv_lt hx', ej⟩ h2))
        exact br_f (by decide) ⟨rfl, wv_in h⟩
    · exact wv_xrev0 hrc h1 (br_t rfl (br_f e (wv_yat0 hrc h1 (br_f (by decide) ⟨rfl, wv_in h⟩))))
theorem i_vc_author {k : Nat} {u : SX} {v : SY} (I : i_Rel k u v) (hk : k + 5 ≤ 2562) (v1 : Int32) (v2 : Int32) : wpX_author (fun r => wpY_author (fun r' v' => r' = r ∧ i_Rel (k + 5) u v') v v1 v2) u v1 v2 := by
  refine I (fun u v => wpX_author (fun r => wpY_author (fun r' v' => r' = r ∧ i_Rel (k + 5) u v') v v1 v2) u v1 v2) ?_
  clear I
  intro rl ll lc rc wl w1 w2 jl cc pA pB sA sB sJ dA dB jl2 va au ho pl ro fp sp hi tl tx wk jo cd be ch sd jo2 tk L st kn am h
  obtain ⟨hrc, hlc, hm⟩ := wv_I_lc h
  obtain ⟨_, hL, hR, hro, _, hA, _, hS, _, _, hG, hX⟩ := id h
  show wpX_author _ (nI rl, nI ll, nI lc, nI rc, nI wl, nI w1, w2, jl, cc, pA, pB, sA, sB, sJ, dA, dB, va, au, ho, pl, ro, fp, sp, hi, tl, tx, wk, jo, cd, be, ch) v1 v2
  rw [wpX_author]
  by_cases h1 : ∃ k, k < rc ∧ v1 = nI k
  · obtain ⟨a, ha, rfl⟩ := h1
    obtain ⟨x1, x2, x3⟩ := hX a ha
    refine wv_xrev1 hrc ha (br_f (by decide) ?_)
    by_cases h2 : ∃ j, j < (L.filter (st a)).length ∧ v2 = nI j
    · obtain ⟨j, hj, rfl⟩ := h2
      obtain ⟨x, hx⟩ := wv_get_or _ hj
      have hxl := hm x (List.mem_filter.mp (List.mem_of_getElem? hx)).1
      have ex : nI a * 10 + nI j = nI (a * 10 + j) := by rw [wv_m10, nI_add]
      refine wv_xpos1 (by omega) x2 x1 hj (br_f (by decide) ?_)
      rw [ex, nI_clamp (n := a * 10 + j) (by omega), wv_An_get x3 hx, nI_clamp (n := x) (by omega)]
      refine And.intro (vp_in_nI (by omega) (by omega)) (And.intro (vp_in_nI (by omega) (by omega)) ?_)
      rw [wpY_author]
      refine wv_yat hrc hG ha hlc hS hA hL hro hm (by omega) (fun z => absurd ⟨j, hj, rfl⟩ z) (fun j' x' hx' ej jl' jo' => ?_)
      have ejj : j = j' := (nI_eq (by omega) (by have := wv_lt hx'; omega)).mp ej
      subst ejj
      rw [hx] at hx'
      cases hx'
      refine br_t (nI_pos' (by omega)) (And.intro (vp_in_nI (by omega) (by omega)) ?_)
      rw [nI_clamp (n := x) (by omega)]
      exact ⟨rfl, wv_in h⟩
    · refine wv_xpos0 (by omega) x2 x1 h2 (br_t rfl ?_)
      rw [wpY_author]
      refine wv_yat hrc hG ha hlc hS hA hL hro hm (by omega) (fun _ jl' jo' => ?_) (fun j' x' hx' ej => absurd ⟨j', wv_lt hx', ej⟩ h2)
      exact br_f (by decide) ⟨rfl, wv_in h⟩
  · refine wv_xrev0 hrc h1 (br_t rfl ?_)
    rw [wpY_author]
    exact wv_yat0 hrc h1 (br_f (by decide) ⟨rfl, wv_in h⟩)
end
section
/-! the owed statements: order, checkout, merge, conflicts, region -/
section
variable {rl ll rc lc wl w1 : Nat} {w2 jl : Int32} {fp sp sd va au ro wk jo tk : Nat → Int32} {st kn : Nat → Nat → Bool} {am : Nat → Nat}
theorem wv_yat_any {post : Int32 → SY → Prop} {r i : Int32} {L : List Nat} (hrc : rc ≤ 16) (hG : wv_G rc kn fp sp) (hlc : lc ≤ 150)
    (hS : ∀ r, r < 16 → ∀ x, x < 150 → sd (r * 150 + x) = wv_b (st r x)) (hA : ∀ x, x < lc → au x = nI (am x) ∧ am x < rc)
    (hL : L.length = lc) (hro : wv_An ro 0 L) (hm : ∀ x, x ∈ L → x < lc) (hJ : ∀ r, r < rc → (L.filter (st r)).length ≤ 10)
    (k : ∀ (x jl' : Int32) (jo' : Nat → Int32), post x (nI rl, nI ll, nI rc, nI lc, nI wl, nI w1, w2, jl', fp, sp, sd, va, au, ro, wk, jo', tk)) : wpY_lineAt post (nI rl, nI ll, nI rc, nI lc, nI wl, nI w1, w2, jl, fp, sp, sd, va, au, ro, wk, jo, tk) r i := by
  by_cases h1 : ∃ k, k < rc ∧ r = nI k
  · obtain ⟨a, ha, rfl⟩ := h1
    exact wv_yat hrc hG ha hlc hS hA hL hro hm (by have := hJ a ha; omega) (fun _ jl' jo' => k _ jl' jo') (fun _ _ _ _ jl' jo' => k _ jl' jo')
  · exact wv_yat0 hrc h1 (k _ _ _)
end
theorem i_vc_order {k : Nat} {u : SX} {v : SY} (I : i_Rel k u v) (hk : k + 5 ≤ 2562) (v1 : Int32) (v2 : Int32) (v3 : Int32) (v4 : Int32) : wpX_order (fun r => wpY_order (fun r' v' => r' = r ∧ i_Rel (k + 5) u v') v v1 v2 v3 v4) u v1 v2 v3 v4 := by
  refine I (fun u v => wpX_order (fun r => wpY_order (fun r' v' => r' = r ∧ i_Rel (k + 5) u v') v v1 v2 v3 v4) u v1 v2 v3 v4) ?_
  clear I
  intro rl ll lc rc wl w1 w2 jl cc pA pB sA sB sJ dA dB jl2 va au ho pl ro fp sp hi tl tx wk jo cd be ch sd jo2 tk L st kn am h
  obtain ⟨hrc, hlc, hm⟩ := wv_I_lc h
  obtain ⟨_, hL, hR, hro, hpl, hA, _, hS, _, _, hG, hX⟩ := id h
  have hJ : ∀ r, r < rc → (L.filter (st r)).length ≤ 10 := fun r hr => (hX r hr).2.1
  have n3 : ¬ (-3 : Int32) = -2 := by decide
  have l3 : (-3 : Int32) < 0 := by decide
  have g3 : ¬ (0 : Int32) ≤ -3 := by decide
  have hm2 : (-2 : Int32) < 0 := by decide
  show wpX_order _ (nI rl, nI ll, nI lc, nI rc, nI wl, nI w1, w2, jl, cc, pA, pB, sA, sB, sJ, dA, dB, va, au, ho, pl, ro, fp, sp, hi, tl, tx, wk, jo, cd, be, ch) v1 v2 v3 v4
  rw [wpX_order]
  by_cases h1 : ∃ k, k < rc ∧ v1 = nI k
  · obtain ⟨a, ha, rfl⟩ := h1
    refine wv_xrev1 hrc ha (br_f (by decide) ?_)
    by_cases h3 : ∃ k, k < rc ∧ v3 = nI k
    · obtain ⟨b, hb, rfl⟩ := h3
      refine wv_xrev1 hrc hb (br_f (by decide) ?_)
      by_cases h2 : ∃ j, j < (L.filter (st a)).length ∧ v2 = nI j
      · obtain ⟨i, hi', rfl⟩ := h2
        obtain ⟨x, hx⟩ := wv_get_or _ hi'
        have hxm := (List.mem_filter.mp (List.mem_of_getElem? hx)).1
        have hxl := hm x hxm
        obtain ⟨ax1, ax2, ax3⟩ := hX a ha
        refine wv_xpos1 (by omega) ax2 ax1 hi' (br_f (by decide) ?_)
        obtain ⟨bx1, bx2, bx3⟩ := hX b hb
        by_cases h4 : ∃ j, j < (L.filter (st b)).length ∧ v4 = nI j
        · obtain ⟨j, hj, rfl⟩ := h4
          obtain ⟨y, hy⟩ := wv_get_or _ hj
          have hym := (List.mem_filter.mp (List.mem_of_getElem? hy)).1
          have hyl := hm y hym
          refine wv_xpos1 (by omega) bx2 bx1 hj (br_f (by decide) ?_)
          have ea : nI a * 10 + nI i = nI (a * 10 + i) := by rw [wv_m10, nI_add]
          have eb : nI b * 10 + nI j = nI (b * 10 + j) := by rw [wv_m10, nI_add]
          rw [ea, eb, nI_clamp (n := a * 10 + i) (by omega), nI_clamp (n := b * 10 + j) (by omega), wv_An_get ax3 hx, wv_An_get bx3 hy]
          refine And.intro (vp_in_nI (by omega) (by omega)) (nm_e (And.intro (vp_in_nI (by omega) (by omega)) (nm_e ?_)))
          -- Y's side, for any answer
          have hY : ∀ res : Int32, (∀ (post : Int32 → SY → Prop) (jl' : Int32) (jo' : Nat → Int32), post res (nI rl, nI ll, nI rc, nI lc, nI wl, nI w1, w2, jl', fp, sp, sd, va, au, ro, wk, jo', tk) → ∃ n50 : Nat, wY_order_50 post (nI x) (nI y) (nI rl) (nI ll) (nI rc) (nI lc) (nI wl) (nI w1) w2 jl' fp sp sd va au ro wk jo' tk n50 0) →
              wpY_order (fun r' v' => r' = res ∧ i_Rel (k + 5) (nI rl, nI ll, nI lc, nI rc, nI wl, nI w1, w2, jl, cc, pA, pB, sA, sB, sJ, dA, dB, va, au, ho, pl, ro, fp, sp, hi, tl, tx, wk, jo, cd, be, ch) v') (nI rl, nI ll, nI rc, nI lc, nI wl, nI w1, w2, jl2, fp, sp, sd, va, au, ro, wk, jo2, tk) (nI a) (nI i) (nI b) (nI j) := by
            intro res hres
            rw [wpY_order]
            refine wv_yat hrc hG ha hlc hS hA hL hro hm (by omega) (fun z => absurd ⟨i, hi', rfl⟩ z) (fun i2 x2 hx2 ei jl' jo' => ?_)
            have eii : i = i2 := (nI_eq (by omega) (by have := wv_lt hx2; omega)).mp ei
            subst eii
            rw [hx] at hx2
            cases hx2
            refine wv_yat hrc hG hb hlc hS hA hL hro hm (by omega) (fun z => absurd ⟨j, hj, rfl⟩ z) (fun j2 y2 hy2 ej jl'' jo'' => ?_)
            have ejj : j = j2 := (nI_eq (by omega) (by have := wv_lt hy2; omega)).mp ej
            subst ejj
            rw [hy] at hy2
            cases hy2
            refine br_f (wv_nI_ne (by omega) hm2) (br_f (wv_nI_ne (by omega) hm2) (br_f (nI_pos (by omega)) (br_t (nI_pos' (by omega)) ?_)))
            exact hres _ jl'' jo'' ⟨rfl, wv_in h⟩
          obtain ⟨p, hp⟩ := List.getElem?_of_mem hxm
          obtain ⟨q, hq⟩ := List.getElem?_of_mem hym
          have hpl' := wv_lt hp
          have hql' := wv_lt hq
          refine pk_eq x y (fun e => hY 2 (fun post jl' jo' K => ?_)) (fun e => And.intro (vp_in_nI (by omega) (by omega)) (And.intro (vp_in_nI (by omega) (by omega)) ?_))
          · subst e
            exact ⟨lc + 1, wv_yorder_same hlc K lc (lc + 1) 0 (Nat.lt_succ_self _) (by omega)⟩
          · rw [nI_clamp (n := x) (by omega), nI_clamp (n := y) (by omega), hpl p x hp, hpl q y hq]
            refine pk_le q p (fun z => hY 3 (fun post jl' jo' K => ?_)) (fun z => hY 1 (fun post jl' jo' K => ?_))
            · exact ⟨lc + 1, wv_yorder hlc hL hR hro hp hq e (fun z2 => absurd z (by omega)) (fun _ => K) lc (lc + 1) 0 (Nat.lt_succ_self _) (by omega) (Nat.zero_le _) (Nat.zero_le _)⟩
            · exact ⟨lc + 1, wv_yorder hlc hL hR hro hp hq e (fun _ => K) (fun z2 => absurd z (by omega)) lc (lc + 1) 0 (Nat.lt_succ_self _) (by omega) (Nat.zero_le _) (Nat.zero_le _)⟩
        · refine wv_xpos0 (by omega) bx2 bx1 h4 (br_t rfl ?_)
          rw [wpY_order]
          refine wv_yat hrc hG ha hlc hS hA hL hro hm (by omega) (fun z => absurd ⟨i, hi', rfl⟩ z) (fun i2 x2 hx2 ei jl' jo' => ?_)
          have hx2l := hm x2 (List.mem_filter.mp (List.mem_of_getElem? hx2)).1
          refine wv_yat hrc hG hb hlc hS hA hL hro hm (by omega) (fun _ jl'' jo'' => ?_) (fun j2 y2 hy2 ej => absurd ⟨j2, wv_lt hy2, ej⟩ h4)
          exact br_f (wv_nI_ne (by omega) hm2) (br_f n3 (br_f (nI_pos (by omega)) (br_f g3 ⟨rfl, wv_in h⟩)))
      · obtain ⟨ax1, ax2, ax3⟩ := hX a ha
        refine wv_xpos0 (by omega) ax2 ax1 h2 (br_t rfl ?_)
        rw [wpY_order]
        refine wv_yat hrc hG ha hlc hS hA hL hro hm (by omega) (fun _ jl' jo' => ?_) (fun i2 x2 hx2 ei => absurd ⟨i2, wv_lt hx2, ei⟩ h2)
        have hbl := hJ b hb
        refine wv_yat hrc hG hb hlc hS hA hL hro hm (by omega) (fun _ jl'' jo'' => ?_) (fun j2 y2 hy2 ej jl'' jo'' => ?_)
        · exact br_f n3 (br_f n3 (br_t l3 ⟨rfl, wv_in h⟩))
        · have hy2l := hm y2 (List.mem_filter.mp (List.mem_of_getElem? hy2)).1
          exact br_f n3 (br_f (wv_nI_ne (by omega) hm2) (br_t l3 ⟨rfl, wv_in h⟩))
    · refine wv_xrev0 hrc h3 (br_t rfl ?_)
      rw [wpY_order]
      have hal := hJ a ha
      refine wv_yat hrc hG ha hlc hS hA hL hro hm (by omega) (fun _ jl' jo' => ?_) (fun i2 x2 hx2 ei jl' jo' => ?_)
      · exact wv_yat0 hrc h3 (br_f n3 (br_t rfl ⟨rfl, wv_in h⟩))
      · have hx2l := hm x2 (List.mem_filter.mp (List.mem_of_getElem? hx2)).1
        exact wv_yat0 hrc h3 (br_f (wv_nI_ne (by omega) hm2) (br_t rfl ⟨rfl, wv_in h⟩))
  · refine wv_xrev0 hrc h1 (br_t rfl ?_)
    rw [wpY_order]
    refine wv_yat0 hrc h1 (wv_yat_any hrc hG hlc hS hA hL hro hm hJ (fun x jl' jo' => ?_))
    exact br_t rfl ⟨rfl, wv_in h⟩
theorem i_vc_checkout {k : Nat} {u : SX} {v : SY} (I : i_Rel k u v) (hk : k + 5 ≤ 2562) (v1 : Int32) : wpX_checkout (fun r u' => wpY_checkout (fun r' v' => r' = r ∧ i_Rel (k + 5) u' v') v v1) u v1 := by
  refine I (fun u v => wpX_checkout (fun r u' => wpY_checkout (fun r' v' => r' = r ∧ i_Rel (k + 5) u' v') v v1) u v1) ?_
  clear I
  intro rl ll lc rc wl w1 w2 jl cc pA pB sA sB sJ dA dB jl2 va au ho pl ro fp sp hi tl tx wk jo cd be ch sd jo2 tk L st kn am h
  obtain ⟨hrc, hlc, hm⟩ := wv_I_lc h
  obtain ⟨_, hL, hR, hro, hpl, hA, _, hS, _, _, hG, hX⟩ := id h
  show wpX_checkout _ (nI rl, nI ll, nI lc, nI rc, nI wl, nI w1, w2, jl, cc, pA, pB, sA, sB, sJ, dA, dB, va, au, ho, pl, ro, fp, sp, hi, tl, tx, wk, jo, cd, be, ch) v1
  rw [wpX_checkout]
  by_cases h1 : ∃ k, k < rc ∧ v1 = nI k
  · obtain ⟨a, ha, rfl⟩ := h1
    obtain ⟨ax1, ax2, ax3⟩ := hX a ha
    refine wv_xrev1 hrc ha (br_f (by decide) (And.intro (vp_in_nI (by omega) (by omega)) (nm_r (e' := nI (L.filter (st a)).length) (by rw [nI_clamp (n := a) (by omega)]; exact ax1) ⟨(L.filter (st a)).length + 1, ?_⟩)))
    refine wv_xco (by omega) ax2 (L.filter (st a)) ((L.filter (st a)).length + 1) 0 wk (Nat.lt_succ_self _) (by omega) ax3 (fun x hx => by have := hm x (List.mem_filter.mp hx).1; omega) ?_
    rw [wpY_checkout]
    refine wv_ymerge (kn := kn) (st := st) (am := am) hrc hG ha ha hlc hS hA hL hro hm (wv_I_J h ha ha) (fun jl' jo' => ?_)
    rw [wv_ij_filt]
    have hcl := (wv_I_CFl h ha ha).2
    exact br_f (wv_nI_ne (by omega) (by decide)) ⟨rfl, wv_in (wv_I_work h (by omega) ha (Or.inl rfl))⟩
  · refine wv_xrev0 hrc h1 (br_t rfl ?_)
    rw [wpY_checkout]
    exact wv_ymerge0 hrc (Or.inl h1) (br_t rfl ⟨rfl, wv_in h⟩)
section
variable {rl ll lc rc wl w1 : Nat} {w2 jl cc pA pB sA sB sJ dA dB : Int32} {va au ho pl ro fp sp hi tl tx wk jo cd be ch : Nat → Int32} {st kn : Nat → Nat → Bool} {am : Nat → Nat} {sd : Nat → Int32} {L : List Nat} {a b : Nat}
/-- compare, from what the relation holds -/
theorem wv_xcompI {post : SX → Prop} (h : wv_I rl ll lc rc wl w1 w2 au ho pl ro fp sp hi tl tx sd L st kn am) (ha : a < rc) (hb : b < rc)
    (K : ∀ (pA pB sA sB sJ dA dB : Int32) (jo' cd' : Nat → Int32), wv_An jo' 0 (L.filter (wv_ij st kn am a b)) →
      wv_An cd' 0 ((wv_CL st kn am a b L 0).map (wv_six (wv_cm st a b) (st a) (st b) (wv_ij st kn am a b) L)).flatten →
      post (nI rl, nI ll, nI lc, nI rc, nI wl, nI w1, w2, nI (L.filter (wv_ij st kn am a b)).length, nI (wv_CL st kn am a b L 0).length, pA, pB, sA, sB, sJ, dA, dB, va, au, ho, pl, ro, fp, sp, hi, tl, tx, wk, jo', cd', be, ch)) :
    wpX_compare post (nI rl, nI ll, nI lc, nI rc, nI wl, nI w1, w2, jl, cc, pA, pB, sA, sB, sJ, dA, dB, va, au, ho, pl, ro, fp, sp, hi, tl, tx, wk, jo, cd, be, ch) (nI a) (nI b) := by
  obtain ⟨hrc, hlc, hm⟩ := wv_I_lc h
  obtain ⟨hcl1, hcl2⟩ := wv_I_CFl h ha hb
  obtain ⟨_, hL, hR, hro, hpl, hA, hH, hS, _, hK, hG, hX⟩ := id h
  refine wv_xcompare (st := st) (kn := kn) (am := am) (by omega) (by omega) hlc hL hro hm (fun x hx => ⟨(hA x hx).1, Nat.lt_of_lt_of_le (hA x hx).2 hrc⟩) hH (hK a ha) (hK b hb) (wv_I_J h ha hb) (by omega) (fun pA pB sA sB sJ dA dB jo' cd' h1 h2 h3 => ?_)
  rw [hcl1]
  rw [wv_I_CF h ha hb] at h3
  exact K pA pB sA sB sJ dA dB jo' cd' h1 h3
end
theorem i_vc_merge {k : Nat} {u : SX} {v : SY} (I : i_Rel k u v) (hk : k + 5 ≤ 2562) (v1 : Int32) (v2 : Int32) : wpX_merge (fun r u' => wpY_merge (fun r' v' => r' = r ∧ i_Rel (k + 5) u' v') v v1 v2) u v1 v2 := by
  refine I (fun u v => wpX_merge (fun r u' => wpY_merge (fun r' v' => r' = r ∧ i_Rel (k + 5) u' v') v v1 v2) u v1 v2) ?_
  clear I
  intro rl ll lc rc wl w1 w2 jl cc pA pB sA sB sJ dA dB jl2 va au ho pl ro fp sp hi tl tx wk jo cd be ch sd jo2 tk L st kn am h
  obtain ⟨hrc, hlc, hm⟩ := wv_I_lc h
  obtain ⟨_, hL, hR, hro, hpl, hA, _, hS, _, _, hG, hX⟩ := id h
  show wpX_merge _ (nI rl, nI ll, nI lc, nI rc, nI wl, nI w1, w2, jl, cc, pA, pB, sA, sB, sJ, dA, dB, va, au, ho, pl, ro, fp, sp, hi, tl, tx, wk, jo, cd, be, ch) v1 v2
  rw [wpX_merge]
  by_cases h1 : ∃ k, k < rc ∧ v1 = nI k
  · obtain ⟨a, ha, rfl⟩ := h1
    refine wv_xrev1 hrc ha (br_f (by decide) ?_)
    by_cases h2 : ∃ k, k < rc ∧ v2 = nI k
    · obtain ⟨b, hb, rfl⟩ := h2
      have hJ := wv_I_J h ha hb
      refine wv_xrev1 hrc hb (br_f (by decide) (wv_xcompI h ha hb (fun pA pB sA sB sJ dA dB jo' cd' g1 g2 => ⟨(L.filter (wv_ij st kn am a b)).length + 1, ?_⟩)))
      refine wv_xmg hJ (L.filter (wv_ij st kn am a b)) ((L.filter (wv_ij st kn am a b)).length + 1) 0 wk (Nat.lt_succ_self _) (by omega) g1 (fun x hx => by have := hm x (List.mem_filter.mp hx).1; omega) ?_
      refine wv_ymerge (kn := kn) (st := st) (am := am) hrc hG ha hb hlc hS hA hL hro hm hJ (fun jl' jo' => ?_)
      exact ⟨rfl, wv_in (wv_I_work h hJ ha (Or.inr ⟨b, hb, rfl⟩))⟩
    · exact wv_xrev0 hrc h2 (br_t rfl (wv_ymerge0 hrc (Or.inr h2) ⟨rfl, wv_in h⟩))
  · exact wv_xrev0 hrc h1 (br_t rfl (wv_ymerge0 hrc (Or.inl h1) ⟨rfl, wv_in h⟩))
theorem i_vc_conflicts {k : Nat} {u : SX} {v : SY} (I : i_Rel k u v) (hk : k + 5 ≤ 2562) (v1 : Int32) (v2 : Int32) : wpX_conflicts (fun r u' => wpY_conflicts (fun r' => r' = r ∧ i_Rel (k + 5) u' v) v v1 v2) u v1 v2 := by
  refine I (fun u v => wpX_conflicts (fun r u' => wpY_conflicts (fun r' => r' = r ∧ i_Rel (k + 5) u' v) v v1 v2) u v1 v2) ?_
  clear I
  intro rl ll lc rc wl w1 w2 jl cc pA pB sA sB sJ dA dB jl2 va au ho pl ro fp sp hi tl tx wk jo cd be ch sd jo2 tk L st kn am h
  obtain ⟨hrc, hlc, hm⟩ := wv_I_lc h
  obtain ⟨_, hL, hR, hro, hpl, hA, _, hS, _, _, hG, hX⟩ := id h
  show wpX_conflicts _ (nI rl, nI ll, nI lc, nI rc, nI wl, nI w1, w2, jl, cc, pA, pB, sA, sB, sJ, dA, dB, va, au, ho, pl, ro, fp, sp, hi, tl, tx, wk, jo, cd, be, ch) v1 v2
  rw [wpX_conflicts]
  by_cases h1 : ∃ k, k < rc ∧ v1 = nI k
  · obtain ⟨a, ha, rfl⟩ := h1
    refine wv_xrev1 hrc ha (br_f (by decide) ?_)
    by_cases h2 : ∃ k, k < rc ∧ v2 = nI k
    · obtain ⟨b, hb, rfl⟩ := h2
      refine wv_xrev1 hrc hb (br_f (by decide) (wv_xcompI h ha hb (fun pA pB sA sB sJ dA dB jo' cd' g1 g2 => ?_)))
      exact wv_yconf (kn := kn) (st := st) (am := am) hrc hG ha hb hlc hS hA hL hro hm ⟨rfl, wv_in h⟩
    · exact wv_xrev0 hrc h2 (br_t rfl (wv_yconf0 hrc (Or.inr h2) ⟨rfl, wv_in h⟩))
  · exact wv_xrev0 hrc h1 (br_t rfl (wv_yconf0 hrc (Or.inl h1) ⟨rfl, wv_in h⟩))
theorem wv_six_at {st kn : Nat → Nat → Bool} {am : Nat → Nat} {a b g w : Nat} {L : List Nat} (hw : w ≤ 5) :
    (wv_six (wv_cm st a b) (st a) (st b) (wv_ij st kn am a b) L g)[w]? = some (if w % 2 = 0 then wv_sta (wv_cm st a b) (wv_T st kn am a b w) g 0 L else wv_len (wv_cm st a b) (wv_T st kn am a b w) g 0 L) := by
  match w, hw with
  | 0, _ => rfl
  | 1, _ => rfl
  | 2, _ => rfl
  | 3, _ => rfl
  | 4, _ => rfl
  | 5, _ => rfl
theorem i_vc_region {k : Nat} {u : SX} {v : SY} (I : i_Rel k u v) (hk : k + 5 ≤ 2562) (v1 : Int32) (v2 : Int32) (v3 : Int32) (v4 : Int32) : wpX_region (fun r u' => wpY_region (fun r' => r' = r ∧ i_Rel (k + 5) u' v) v v1 v2 v3 v4) u v1 v2 v3 v4 := by
  refine I (fun u v => wpX_region (fun r u' => wpY_region (fun r' => r' = r ∧ i_Rel (k + 5) u' v) v v1 v2 v3 v4) u v1 v2 v3 v4) ?_
  clear I
  intro rl ll lc rc wl w1 w2 jl cc pA pB sA sB sJ dA dB jl2 va au ho pl ro fp sp hi tl tx wk jo cd be ch sd jo2 tk L st kn am h
  obtain ⟨hrc, hlc, hm⟩ := wv_I_lc h
  obtain ⟨_, hL, hR, hro, hpl, hA, _, hS, _, _, hG, hX⟩ := id h
  show wpX_region _ (nI rl, nI ll, nI lc, nI rc, nI wl, nI w1, w2, jl, cc, pA, pB, sA, sB, sJ, dA, dB, va, au, ho, pl, ro, fp, sp, hi, tl, tx, wk, jo, cd, be, ch) v1 v2 v3 v4
  rw [wpX_region]
  by_cases h1 : ∃ k, k < rc ∧ v1 = nI k
  · obtain ⟨a, ha, rfl⟩ := h1
    refine wv_xrev1 hrc ha (br_f (by decide) ?_)
    by_cases h2 : ∃ k, k < rc ∧ v2 = nI k
    · obtain ⟨b, hb, rfl⟩ := h2
      have hcl := (wv_I_CFl h ha hb).2
      refine wv_xrev1 hrc hb (br_f (by decide) (wv_xcompI h ha hb (fun pA pB sA sB sJ dA dB jo' cd' g1 g2 => ?_)))
      by_cases z1 : v3 < 0
      · refine br_t z1 ?_
        rw [wpY_region]
        exact wv_yrev1 hrc ha (br_f (by decide) (wv_yrev1 hrc hb (br_f (by decide) (br_t z1 ⟨rfl, wv_in h⟩))))
      · obtain ⟨kk, hkk, rfl⟩ := nI_of z1
        by_cases z2 : kk < (wv_CL st kn am a b L 0).length
        · by_cases z3 : v4 < 0
          · refine br_f z1 (br_t (nI_lt z2 (by omega)) (br_t z3 ?_))
            rw [wpY_region]
            refine wv_yrev1 hrc ha (br_f (by decide) (wv_yrev1 hrc hb (br_f (by decide) (br_f z1 (wv_yconf (kn := kn) (st := st) (am := am) hrc hG ha hb hlc hS hA hL hro hm ?_)))))
            exact br_f (nI_ge z2 (by omega)) (br_t z3 ⟨rfl, wv_in h⟩)
          · by_cases z4 : v4 ≤ 5
            · obtain ⟨w, hw, rfl⟩ := nI_of2 (n := 5) (by decide) z3 z4
              obtain ⟨g, hg⟩ := wv_get_or _ z2
              have hx : wv_An cd' 0 ((wv_CL st kn am a b L 0).map (wv_six (wv_cm st a b) (st a) (st b) (wv_ij st kn am a b) L)).flatten := g2
              have hfl := wv_flat _ (fun t ht => by obtain ⟨g', _, e⟩ := List.mem_map.mp ht; rw [← e]; rfl) kk _ w _ (show ((wv_CL st kn am a b L 0).map (wv_six (wv_cm st a b) (st a) (st b) (wv_ij st kn am a b) L))[kk]? = some (wv_six (wv_cm st a b) (st a) (st b) (wv_ij st kn am a b) L g) by rw [List.getElem?_map, hg]; rfl) (wv_six_at hw)
              have hcd := wv_An_get hx hfl
              rw [Nat.zero_add] at hcd
              have ex : nI kk * 6 + nI w = nI (kk * 6 + w) := by rw [wv_m6, nI_add]
              refine br_f z1 (br_t (nI_lt z2 (by omega)) (br_f z3 (br_t z4 ?_)))
              rw [ex, nI_clamp (n := kk * 6 + w) (by omega), hcd]
              refine And.intro (vp_in_nI (by omega) (by omega)) ?_
              rw [wpY_region]
              refine wv_yrev1 hrc ha (br_f (by decide) (wv_yrev1 hrc hb (br_f (by decide) (br_f z1 (wv_yconf (kn := kn) (st := st) (am := am) hrc hG ha hb hlc hS hA hL hro hm ?_)))))
              refine br_f (nI_ge z2 (by omega)) (br_f z3 (br_t z4 ⟨12, ?_⟩))
              refine wv_yreg65 (kn := kn) (st := st) (am := am) hrc hG ha hb hlc hw hS hA hL hro hm 11 12 0 kk g 0 (by omega) (by omega) hg ?_
              refine ⟨?_, wv_in h⟩
              by_cases z : w % 2 = 0
              · rw [if_pos z, if_pos z]
              · rw [if_neg z, if_neg z]
            · refine br_f z1 (br_t (nI_lt z2 (by omega)) (br_f z3 (br_f z4 ?_)))
              rw [wpY_region]
              refine wv_yrev1 hrc ha (br_f (by decide) (wv_yrev1 hrc hb (br_f (by decide) (br_f z1 (wv_yconf (kn := kn) (st := st) (am := am) hrc hG ha hb hlc hS hA hL hro hm ?_)))))
              exact br_f (nI_ge z2 (by omega)) (br_f z3 (br_f z4 ⟨rfl, wv_in h⟩))
        · refine br_f z1 (br_f (nI_nlt (by omega) (by omega)) ?_)
          rw [wpY_region]
          refine wv_yrev1 hrc ha (br_f (by decide) (wv_yrev1 hrc hb (br_f (by decide) (br_f z1 (wv_yconf (kn := kn) (st := st) (am := am) hrc hG ha hb hlc hS hA hL hro hm ?_)))))
          exact br_t (nI_le (by omega) (by omega)) ⟨rfl, wv_in h⟩
    · refine wv_xrev0 hrc h2 (br_t rfl ?_)
      rw [wpY_region]
      exact wv_yrev1 hrc ha (br_f (by decide) (wv_yrev0 hrc h2 (br_t rfl ⟨rfl, wv_in h⟩)))
  · refine wv_xrev0 hrc h1 (br_t rfl ?_)
    rw [wpY_region]
    exact wv_yrev0 hrc h1 (br_t rfl ⟨rfl, wv_in h⟩)
end
section
/-! commit -/
theorem wv_sm_mem {y : Nat} : ∀ cl : List (Option Nat), some y ∈ cl → y ∈ wv_sm cl := by
  intro cl
  induction cl with
  | nil => intro h; cases h
  | cons o cl ih =>
    intro h
    cases o with
    | none =>
      rcases List.mem_cons.mp h with z | z
      · cases z
      · exact ih z
    | some b =>
      rcases List.mem_cons.mp h with z | z
      · cases z
        exact List.mem_cons_self
      · exact List.mem_cons_of_mem _ (ih z)
section
variable {rl ll lc rc wl w1 : Nat} {w2 jl cc pA pB sA sB sJ dA dB : Int32} {va au ho pl ro fp sp hi tl tx wk jo cd be ch : Nat → Int32} {st kn : Nat → Nat → Bool} {am : Nat → Nat} {sd : Nat → Int32} {L : List Nat}
theorem wv_xweaveNL {post : SX → Prop} {cl : List (Option Nat)} (hwl : wl ≤ 10) (hcl : cl.length = wl) (hL : L.length = lc) (hR : wv_Ro L) (hy : ∀ y, some y ∈ cl → y ∈ L) (hN : lc + wl ≤ 150) (hro : wv_An ro 0 L) (hpl : wv_Pl pl L)
    (hH : ∀ x, x < lc → ∀ r, r < 16 → bt (ho x) r = st r x) (hS : ∀ x, lc ≤ x → ∀ r, st r x = false) (hch : wv_At ch 0 (cl.map wv_oi))
    (K : ∀ ho' pl' ch' : Nat → Int32, wv_Pl pl' (wv_we wk (nI rc) 0 none cl L ro va au).1 → (∀ x, x < (wv_we wk (nI rc) 0 none cl L ro va au).1.length → ∀ r, r < 16 → bt (ho' x) r = st r x) →
      wv_An ch' 0 (wv_we wk (nI rc) 0 none cl L ro va au).2.1 →
      post (nI rl, nI ll, nI (wv_we wk (nI rc) 0 none cl L ro va au).1.length, nI rc, nI wl, nI w1, w2, jl, cc, pA, pB, sA, sB, sJ, dA, dB, (wv_we wk (nI rc) 0 none cl L ro va au).2.2.2.1, (wv_we wk (nI rc) 0 none cl L ro va au).2.2.2.2, ho', pl', (wv_we wk (nI rc) 0 none cl L ro va au).2.2.1, fp, sp, hi, tl, tx, wk, jo, cd, be, ch')) :
    wpX_weaveNewLines post (nI rl, nI ll, nI lc, nI rc, nI wl, nI w1, w2, jl, cc, pA, pB, sA, sB, sJ, dA, dB, va, au, ho, pl, ro, fp, sp, hi, tl, tx, wk, jo, cd, be, ch) (nI rc) := by
  subst hL
  rw [wpX_weaveNewLines]
  exact ⟨cl.length + 1, wv_xweave (st := st) hwl cl (cl.length + 1) 0 none L va au ho pl ro ch (Nat.lt_succ_self _) (by omega) hR hy (by omega) hro hpl hH hS hch (Or.inl ⟨rfl, rfl⟩) (fun ho' pl' ch' k1 k2 _ k4 => K ho' pl' ch' k1 k2 k4)⟩
theorem wv_xtextW {post : SX → Prop} {T : List Nat} (hwl : wl ≤ 10) (hrc : rc < 16) (hT : T.length = wl) (hch : wv_An ch 0 T) (hm : ∀ t, t ∈ T → t < 150)
    (K : ∀ ho' tx' : Nat → Int32, (∀ x r, r < 16 → bt (ho' x) r = (bt (ho x) r || (decide (r = rc) && decide (x ∈ T)))) → (∀ j, j < rc * 10 → tx' j = tx j) → wv_An tx' (rc * 10) T → post (nI rl, nI ll, nI lc, nI rc, nI wl, nI w1, w2, jl, cc, pA, pB, sA, sB, sJ, dA, dB, va, au, ho', pl, ro, fp, sp, hi, upd tl rc (nI wl), tx', wk, jo, cd, be, ch)) :
    wpX_recordText post (nI rl, nI ll, nI lc, nI rc, nI wl, nI w1, w2, jl, cc, pA, pB, sA, sB, sJ, dA, dB, va, au, ho, pl, ro, fp, sp, hi, tl, tx, wk, jo, cd, be, ch) (nI rc) := by
  rw [wpX_recordText, nI_clamp (n := rc) (by omega)]
  exact And.intro (vp_in_nI hrc (by omega)) (nm_e ⟨T.length + 1, wv_xtext hwl hrc T (T.length + 1) 0 ho tx (Nat.lt_succ_self _) (by omega) hch hm K⟩)
/-- X's commit, behind its two tests -/
theorem wv_xcommit {post : Int32 → SX → Prop} {o : Nat} (h : wv_I rl ll lc rc wl w1 w2 au ho pl ro fp sp hi tl tx sd L st kn am) (hrl : rc < rl) (hwl : wl ≤ ll) (ho' : o < rc)
    (cl : List (Option Nat)) (ecl : cl = wv_ck va ((List.range wl).map wk) (L.filter (wv_ij st kn am w1 o)))
    (K : ∀ (jl cc pA pB sA sB sJ dA dB : Int32) (ho' pl' tx' jo cd be ch : Nat → Int32),
      wv_Pl pl' (wv_we wk (nI rc) 0 none cl L ro va au).1 →
      (∀ x, x < (wv_we wk (nI rc) 0 none cl L ro va au).1.length → ∀ r, r < 16 → bt (ho' x) r = (st r x || (decide (r = rc) && decide (x ∈ (wv_we wk (nI rc) 0 none cl L ro va au).2.1)))) →
      (∀ j, j < rc * 10 → tx' j = tx j) → wv_An tx' (rc * 10) (wv_we wk (nI rc) 0 none cl L ro va au).2.1 →
      post (nI rc) (nI rl, nI ll, nI (wv_we wk (nI rc) 0 none cl L ro va au).1.length, nI (rc + 1), nI wl, nI rc, (-1), jl, cc, pA, pB, sA, sB, sJ, dA, dB, (wv_we wk (nI rc) 0 none cl L ro va au).2.2.2.1, (wv_we wk (nI rc) 0 none cl L ro va au).2.2.2.2, ho', pl', (wv_we wk (nI rc) 0 none cl L ro va au).2.2.1, upd fp rc (nI w1), upd sp rc w2, upd hi rc ((hi w1 ||| hi o) ||| ((1 : Int32) <<< (nI rc &&& 31))), upd tl rc (nI wl), tx', wk, jo, cd, be, ch)) :
    wX_commit_52 post (nI rc) (nI o) (nI rl) (nI ll) (nI lc) (nI rc) (nI wl) (nI w1) w2 jl cc pA pB sA sB sJ dA dB va au ho pl ro fp sp hi tl tx wk jo cd be ch := by
  obtain ⟨hrc, hlc, hm⟩ := wv_I_lc h
  obtain ⟨⟨b1, b2, b3, b4, b5, b6, b7, b8, b9, b10⟩, hL, hR, hro, hpl, hA, hH, hS, hT, hK, hG, hX⟩ := id h
  have hJ := wv_I_J h b9 ho'
  have hjs : ∀ x, x ∈ L.filter (wv_ij st kn am w1 o) → x < 150 := fun x hx => by have := hm x (List.mem_filter.mp hx).1; omega
  have hwsl : ((List.range wl).map wk).length = wl := by rw [List.length_map, List.length_range]
  have hcll : cl.length = wl := by rw [ecl, wv_ck_len, hwsl]
  have hsub : List.Sublist (wv_sm cl) L := by rw [ecl]; exact List.Sublist.trans (wv_ck_sub _ _) List.filter_sublist
  have hWo := wv_we_ok wk (nI rc) cl 0 none [] L ro va au hR rfl hsub
  rw [List.nil_append] at hWo
  obtain ⟨g1, g2, g3, g4, ⟨m, gm, gs⟩, g6, g7, g8⟩ := hWo
  rw [List.nil_append] at gm
  rw [wX_commit_52]
  refine wv_xcompI h b9 ho' (fun pA pB sA sB sJ dA dB jo' cd' q1 q2 => ?_)
  refine wv_xfill (ws := (List.range wl).map wk) (js := L.filter (wv_ij st kn am w1 o)) hwsl (by omega) hJ (wv_At_range wk wl) q1 hjs rfl (fun be' q3 => ?_)
  refine wv_xchoose (ws := (List.range wl).map wk) (js := L.filter (wv_ij st kn am w1 o)) hwsl (by omega) hJ (wv_At_range wk wl) q1 hjs rfl q3 (fun ch' q4 => ?_)
  rw [← ecl] at q4
  refine wv_xweaveNL (st := st) (cl := cl) (by omega) hcll hL hR (fun y hy => hsub.subset (wv_sm_mem cl hy)) (by omega) hro hpl hH (fun x hx r => ?_) q4 (fun ho2 pl2 ch2 q5 q6 q7 => ?_)
  · cases e : st r x with
    | false => rfl
    | true => have := (hT r x e).2; omega
  · refine wv_xtextW (T := (wv_we wk (nI rc) 0 none cl L ro va au).2.1) (by omega) (by omega) (by rw [g8, hcll]) q7 (fun t ht => ?_) (fun ho3 tx3 q8 q9 q10 => ?_)
    · have := g1.2 t (gm ▸ gs.subset ht)
      omega
    · refine wv_xparents (by omega) (by omega) (by omega) ?_
      refine K _ _ _ _ _ _ _ _ _ ho3 pl2 tx3 _ _ _ _ q5 (fun x hx r hr => ?_) q9 q10
      rw [q8 x r hr, q6 x hx r hr]
end
section
variable {rl ll rc lc wl w1 : Nat} {w2 jl : Int32} {fp sp sd va au ro wk jo tk : Nat → Int32} {ho pl hi tl tx : Nat → Int32} {st kn : Nat → Nat → Bool} {am : Nat → Nat} {L : List Nat}
/-- Y's commit, behind its two tests -/
theorem wv_ycommit {post : Int32 → SY → Prop} {o : Nat} (h : wv_I rl ll lc rc wl w1 w2 au ho pl ro fp sp hi tl tx sd L st kn am) (hrl : rc < rl) (hwl : wl ≤ ll) (ho' : o < rc)
    (cl : List (Option Nat)) (ecl : cl = wv_ck va ((List.range wl).map wk) (L.filter (wv_ij st kn am w1 o)))
    (K : ∀ (jl : Int32) (jo tk : Nat → Int32), post (nI rc) (nI rl, nI ll, nI (rc + 1), nI (wv_we wk (nI rc) 0 none cl L ro va au).1.length, nI wl, nI rc, (-1), jl, upd fp rc (nI w1), upd sp rc w2, wv_mark rc sd (wv_we wk (nI rc) 0 none cl L ro va au).2.1, (wv_we wk (nI rc) 0 none cl L ro va au).2.2.2.1, (wv_we wk (nI rc) 0 none cl L ro va au).2.2.2.2, (wv_we wk (nI rc) 0 none cl L ro va au).2.2.1, wk, jo, tk)) :
    wY_commit_52 post (nI o) (nI w1) (nI rl) (nI ll) (nI rc) (nI lc) (nI wl) (nI w1) w2 jl fp sp sd va au ro wk jo tk := by
  obtain ⟨hrc, hlc, hm⟩ := wv_I_lc h
  obtain ⟨⟨b1, b2, b3, b4, b5, b6, b7, b8, b9, b10⟩, hL, hR, hro, hpl, hA, hH, hS, hT, hK, hG, hX⟩ := id h
  have hJ := wv_I_J h b9 ho'
  have hjs : ∀ x, x ∈ L.filter (wv_ij st kn am w1 o) → x < 150 := fun x hx => by have := hm x (List.mem_filter.mp hx).1; omega
  have hwsl : ((List.range wl).map wk).length = wl := by rw [List.length_map, List.length_range]
  have hcll : cl.length = wl := by rw [ecl, wv_ck_len, hwsl]
  have hsub : List.Sublist (wv_sm cl) L := by rw [ecl]; exact List.Sublist.trans (wv_ck_sub _ _) List.filter_sublist
  have hpos : 0 < 2 ^ wl := Nat.two_pow_pos wl
  rw [wY_commit_52]
  refine wv_ylist (kn := kn) (st := st) (am := am) hrc hG b9 ho' hlc hS hA hL hro hm hJ (fun jo' q1 => ?_)
  refine nm_r (wv_full wl (by omega)) ⟨2 ^ wl, ?_⟩
  refine wv_ymask (ws := (List.range wl).map wk) (js := L.filter (wv_ij st kn am w1 o)) hwsl (by omega) hJ (wv_At_range wk wl) q1 hjs rfl (fun tk' q2 => ⟨cl.length + 1, ?_⟩) (2 ^ wl - 1) (2 ^ wl) 0 0 tk (by omega) (by rw [hwsl]; omega) (by omega) (wv_best_0 _ _ _ (by rw [hwsl]; omega))
  rw [← ecl] at q2
  subst hL
  exact wv_yc104 (by omega) (by omega) cl (cl.length + 1) 0 none L sd va au ro tk' (Nat.lt_succ_self _) (by omega) hR (fun y hy => hsub.subset (wv_sm_mem cl hy)) (by omega) hro q2 (Or.inl ⟨rfl, rfl⟩) (fun tk'' => K _ _ tk'')
end
section
variable {rl ll lc rc wl w1 : Nat} {w2 : Int32} {au ho pl ro fp sp hi tl tx sd wk va : Nat → Int32} {L : List Nat} {st kn : Nat → Nat → Bool} {am : Nat → Nat}
/-- the relation behind a commit -/
theorem wv_I_commit {o : Nat} {ho2 pl2 tx2 : Nat → Int32} {R : List Nat × List Nat × (Nat → Int32) × (Nat → Int32) × (Nat → Int32)}
    (h : wv_I rl ll lc rc wl w1 w2 au ho pl ro fp sp hi tl tx sd L st kn am) (hrl : rc < rl) (hwl : wl ≤ ll) (ho' : o < rc) (hw2 : (w2 = -1 ∧ o = w1) ∨ w2 = nI o)
    (hWo : wv_Wo L [] ro au (nI rc) wl R) (q1 : wv_Pl pl2 R.1)
    (q2 : ∀ x, x < R.1.length → ∀ r, r < 16 → bt (ho2 x) r = (st r x || (decide (r = rc) && decide (x ∈ R.2.1))))
    (q3 : ∀ j, j < rc * 10 → tx2 j = tx j) (q4 : wv_An tx2 (rc * 10) R.2.1) :
    wv_I rl ll R.1.length (rc + 1) wl rc (-1) R.2.2.2.2 ho2 pl2 R.2.2.1 (upd fp rc (nI w1)) (upd sp rc w2) (upd hi rc ((hi w1 ||| hi o) ||| ((1 : Int32) <<< (nI rc &&& 31)))) (upd tl rc (nI wl)) tx2 (wv_mark rc sd R.2.1) R.1
      (fun r x => if r = rc then decide (x ∈ R.2.1) else st r x) (fun r k => if r = rc then (decide (k = rc) || kn w1 k || kn o k) else kn r k) (fun x => if x < lc then am x else rc) := by
  obtain ⟨hrc, hlc, hm⟩ := wv_I_lc h
  obtain ⟨⟨b1, b2, b3, b4, b5, b6, b7, b8, b9, b10⟩, hL, hR, hro, hpl, hA, hH, hS, hT, hK, hG, hX⟩ := id h
  obtain ⟨g1, g2, g3, g4, ⟨m, gm, gs⟩, g6, g7, g8⟩ := hWo
  rw [List.nil_append] at gm
  have hTm : ∀ t, t ∈ R.2.1 → t < R.1.length := fun t ht => g1.2 t (gm ▸ gs.subset ht)
  have hsub : List.Sublist R.2.1 R.1 := gm ▸ gs
  have hstf : ∀ r x, lc ≤ x → st r x = false := fun r x hx => by
    cases e : st r x with
    | false => rfl
    | true => have := (hT r x e).2; omega
  have hstr : ∀ x, st rc x = false := fun x => by
    cases e : st rc x with
    | false => rfl
    | true => have := (hT rc x e).1; omega
  refine ⟨⟨b1, b2, b3, b4, by omega, by omega, by omega, by omega, by omega, Or.inl rfl⟩, rfl, g1, g4 hro, q1, fun x hx => ?_, fun x hx r hr => ?_, fun r hr x hx => ?_, fun r x hx => ?_, fun r hr k hk => ?_, ⟨fun k => ?_, fun r h0 hr => ?_⟩, fun r hr => ?_⟩
  all_goals try dsimp only
  · rw [g7 x hx, hL]
    by_cases z : x < lc
    · rw [if_pos z, if_pos z]
      exact ⟨(hA x z).1, by have := (hA x z).2; omega⟩
    · rw [if_neg z, if_neg z]
      exact ⟨rfl, by omega⟩
  · rw [q2 x hx r hr]
    by_cases z : r = rc
    · subst z
      rw [hstr, if_pos rfl, decide_eq_true rfl, Bool.false_or, Bool.true_and]
    · rw [if_neg z, decide_eq_false z, Bool.false_and, Bool.or_false]
  · rw [wv_mark_at R.2.1 sd r x (fun t ht => by have := hTm t ht; omega) hx, hS r hr x hx]
    by_cases z : r = rc
    · subst z
      rw [if_pos rfl, hstr]
      by_cases y : x ∈ R.2.1
      · rw [if_pos ⟨rfl, y⟩, decide_eq_true y]
        rfl
      · rw [if_neg (fun z => y z.2), decide_eq_false y]
    · rw [if_neg (fun y => z y.1), if_neg z]
  · dsimp only at hx
    by_cases z : r = rc
    · subst z
      rw [if_pos rfl] at hx
      exact ⟨by omega, hTm x (of_decide_eq_true hx)⟩
    · rw [if_neg z] at hx
      have := hT r x hx
      exact ⟨by omega, by omega⟩
  · by_cases z : r = rc
    · subst z
      rw [if_pos rfl, pk_us, b_or, b_or, hK w1 b9 k hk, hK o ho' k hk, wv_sh1 (by omega) (by omega)]
      cases kn w1 k <;> cases kn o k <;> cases decide (k = r) <;> rfl
    · rw [if_neg z, pk_un z]
      exact hK r (by omega) k hk
  · rw [if_neg (by omega)]
    exact hG.1 k
  · by_cases z : r = rc
    · subst z
      refine ⟨w1, o, b9, ho', pk_us, ?_, fun k => ?_⟩
      · rw [pk_us]
        exact hw2
      · rw [if_pos rfl, if_neg (by omega), if_neg (by omega)]
    · obtain ⟨f, s, hf, hs, e1, e2, e3⟩ := hG.2 r h0 (by omega)
      refine ⟨f, s, hf, hs, (pk_un z).trans e1, ?_, fun k => ?_⟩
      · rw [pk_un z]
        exact e2
      · rw [if_neg z, if_neg (by omega), if_neg (by omega)]
        exact e3 k
  · by_cases z : r = rc
    · subst z
      have e : R.1.filter (fun x => if r = r then decide (x ∈ R.2.1) else st r x) = R.2.1 := by
        rw [← wv_filt_sub hsub g1.1]
        exact List.filter_congr (fun x _ => by rw [if_pos rfl, wv_filt_sub hsub g1.1])
      show upd tl r (nI wl) r = nI (R.1.filter (fun x => if r = r then decide (x ∈ R.2.1) else st r x)).length ∧ (R.1.filter (fun x => if r = r then decide (x ∈ R.2.1) else st r x)).length ≤ 10 ∧ wv_An tx2 (r * 10) (R.1.filter (fun x => if r = r then decide (x ∈ R.2.1) else st r x))
      rw [e, pk_us, g8]
      exact ⟨rfl, by omega, q4⟩
    · have e : R.1.filter (fun x => if r = rc then decide (x ∈ R.2.1) else st r x) = L.filter (st r) := by
        refine Eq.trans (List.filter_congr (fun x _ => ?_)) (g6 (st r) (fun x hx => hstf r x (by omega)))
        rw [if_neg z]
      show upd tl rc (nI wl) r = nI (R.1.filter (fun x => if r = rc then decide (x ∈ R.2.1) else st r x)).length ∧ (R.1.filter (fun x => if r = rc then decide (x ∈ R.2.1) else st r x)).length ≤ 10 ∧ wv_An tx2 (r * 10) (R.1.filter (fun x => if r = rc then decide (x ∈ R.2.1) else st r x))
      obtain ⟨x1, x2, x3⟩ := hX r (by omega)
      rw [e, pk_un z]
      exact ⟨x1, x2, wv_An_congr x3 (fun j h1 h2 => q3 j (by omega))⟩
end
end
section
theorem i_vc_commit {k : Nat} {u : SX} {v : SY} (I : i_Rel k u v) (hk : k + 5 ≤ 2562) : wpX_commit (fun r u' => wpY_commit (fun r' v' => r' = r ∧ i_Rel (k + 5) u' v') v) u := by
  refine I (fun u v => wpX_commit (fun r u' => wpY_commit (fun r' v' => r' = r ∧ i_Rel (k + 5) u' v') v) u) ?_
  clear I
  intro rl ll lc rc wl w1 w2 jl cc pA pB sA sB sJ dA dB jl2 va au ho pl ro fp sp hi tl tx wk jo cd be ch sd jo2 tk L st kn am h
  obtain ⟨hrc, hlc, hm⟩ := wv_I_lc h
  obtain ⟨⟨b1, b2, b3, b4, b5, b6, b7, b8, b9, b10⟩, hL, hR, hro, hpl, hA, hH, hS, hT, hK, hG, hX⟩ := id h
  by_cases z1 : rc < rl
  · have x1 : nI rc < nI rl := nI_lt z1 (by omega)
    have y1 : ¬ nI rc = nI rl := fun e => by have := (nI_eq (by omega) (by omega)).mp e; omega
    by_cases z2 : wl ≤ ll
    · have x2 : nI wl ≤ nI ll := nI_le z2 (by omega)
      -- both sides, whatever the other parent is
      have key : ∀ o, o < rc → ((w2 = -1 ∧ o = w1) ∨ w2 = nI o) →
          wX_commit_52 (fun r u' => wpY_commit (fun r' v' => r' = r ∧ i_Rel (k + 5) u' v') (nI rl, nI ll, nI rc, nI lc, nI wl, nI w1, w2, jl2, fp, sp, sd, va, au, ro, wk, jo2, tk)) (nI rc) (nI o) (nI rl) (nI ll) (nI lc) (nI rc) (nI wl) (nI w1) w2 jl cc pA pB sA sB sJ dA dB va au ho pl ro fp sp hi tl tx wk jo cd be ch := by
        intro o ho' hw2
        have hsub : List.Sublist (wv_sm (wv_ck va ((List.range wl).map wk) (L.filter (wv_ij st kn am w1 o)))) L := List.Sublist.trans (wv_ck_sub _ _) List.filter_sublist
        have hWo := wv_we_ok wk (nI rc) (wv_ck va ((List.range wl).map wk) (L.filter (wv_ij st kn am w1 o))) 0 none [] L ro va au hR rfl hsub
        rw [List.nil_append, wv_ck_len, List.length_map, List.length_range] at hWo
        refine wv_xcommit h z1 z2 ho' _ rfl (fun jl cc pA pB sA sB sJ dA dB ho2 pl2 tx2 jo cd be ch q1 q2 q3 q4 => ?_)
        have hI := wv_I_commit h z1 z2 ho' hw2 hWo q1 q2 q3 q4
        refine br_f y1 (br_t x2 ?_)
        rcases hw2 with ⟨e1, e2⟩ | e1
        · subst e2
          refine br_t e1 (wv_ycommit h z1 z2 ho' _ rfl (fun jl jo tk => ?_))
          exact ⟨rfl, wv_in hI⟩
        · refine br_f (by rw [e1]; exact wv_nI_ne (by omega) wv_neg1) ?_
          have := wv_ycommit (post := fun r' v' => r' = nI rc ∧ i_Rel (k + 5) (nI rl, nI ll, nI (wv_we wk (nI rc) 0 none (wv_ck va ((List.range wl).map wk) (L.filter (wv_ij st kn am w1 o))) L ro va au).1.length, nI (rc + 1), nI wl, nI rc, (-1), jl, cc, pA, pB, sA, sB, sJ, dA, dB, (wv_we wk (nI rc) 0 none (wv_ck va ((List.range wl).map wk) (L.filter (wv_ij st kn am w1 o))) L ro va au).2.2.2.1, (wv_we wk (nI rc) 0 none (wv_ck va ((List.range wl).map wk) (L.filter (wv_ij st kn am w1 o))) L ro va au).2.2.2.2, ho2, pl2, (wv_we wk (nI rc) 0 none (wv_ck va ((List.range wl).map wk) (L.filter (wv_ij st kn am w1 o))) L ro va au).2.2.1, upd fp rc (nI w1), upd sp rc w2, upd hi rc ((hi w1 ||| hi o) ||| ((1 : Int32) <<< (nI rc &&& 31))), upd tl rc (nI wl), tx2, wk, jo, cd, be, ch) v') (jl := jl2) (jo := jo2) (tk := tk) h z1 z2 ho' _ rfl (fun jl jo tk => ⟨rfl, wv_in hI⟩)
          rw [← e1] at this
          exact this
      rcases b10 with e | ⟨s, hs, e⟩
      · exact br_t x1 (br_t x2 (br_t e (key w1 b9 (Or.inl ⟨e, rfl⟩))))
      · have := key s hs (Or.inr e)
        rw [← e] at this
        exact br_t x1 (br_t x2 (br_f (by rw [e]; exact wv_nI_ne (by omega) wv_neg1) this))
    · have x2 : ¬ nI wl ≤ nI ll := nI_ge (by omega) (by omega)
      exact br_t x1 (br_f x2 (br_f y1 (br_f x2 ⟨rfl, wv_in h⟩)))
  · have e : rc = rl := by omega
    subst e
    exact br_f (nI_nlt (Nat.le_refl _) (by omega)) (br_t rfl ⟨rfl, wv_in h⟩)
end
