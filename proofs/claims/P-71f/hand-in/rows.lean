section
theorem pk_us {f : Nat → Int32} {k : Nat} {x : Int32} : upd f k x k = x := if_pos rfl
theorem pk_un {f : Nat → Int32} {k j : Nat} {x : Int32} (h : j ≠ k) : upd f k x j = f j := if_neg h
theorem pk_uLs {f : Nat → Int64} {k : Nat} {x : Int64} : vp_updL f k x k = x := if_pos rfl
theorem pk_uLn {f : Nat → Int64} {k j : Nat} {x : Int64} (h : j ≠ k) : vp_updL f k x j = f j := if_neg h
theorem pk_sub {a b : Nat} (h : b ≤ a) : nI a - nI b = nI (a - b) := by
  obtain ⟨c, rfl⟩ : ∃ c, a = c + b := ⟨a - b, by omega⟩
  rw [← nI_add, Int32.add_sub_cancel, Nat.add_sub_cancel]
theorem pk_m1 (n : Nat) : nI (n + 1) + (-1) = nI n := by
  rw [← nI_1, Int32.add_assoc, show (1 : Int32) + (-1) = 0 from rfl, Int32.add_zero]
theorem pk_mul (a b : Nat) : nI a * nI b = nI (a * b) := (Int32.ofNat_mul a b).symm
theorem pk_ix (x : Int32) {n : Nat} (hn : n < 2 ^ 31) : x < 0 ∨ nI n ≤ x ∨ ∃ j : Nat, j < n ∧ x = nI j := by
  by_cases h : x < 0
  · exact Or.inl h
  · obtain ⟨j, hj, rfl⟩ := nI_of h
    by_cases h2 : j < n
    · exact Or.inr (Or.inr ⟨j, h2, rfl⟩)
    · exact Or.inr (Or.inl (nI_le (by omega) hj))
theorem pk_le {x y : Int32} {A B : Prop} (a b : Nat) (f : a ≤ b → A) (g : b < a → B) (hx : x = nI a := by rfl) (hy : y = nI b := by rfl) (ha : a < 2 ^ 31 := by omega) (hb : b < 2 ^ 31 := by omega) : (x ≤ y → A) ∧ (¬ x ≤ y → B) := by
  subst hx hy
  rw [nI_leI ha hb]
  exact ⟨f, fun z => g (by omega)⟩
theorem pk_lt {x y : Int32} {A B : Prop} (a b : Nat) (f : a < b → A) (g : b ≤ a → B) (hx : x = nI a := by rfl) (hy : y = nI b := by rfl) (ha : a < 2 ^ 31 := by omega) (hb : b < 2 ^ 31 := by omega) : (x < y → A) ∧ (¬ x < y → B) := by
  subst hx hy
  rw [nI_ltI ha hb]
  exact ⟨f, fun z => g (by omega)⟩
theorem pk_eq {x y : Int32} {A B : Prop} (a b : Nat) (f : a = b → A) (g : a ≠ b → B) (hx : x = nI a := by rfl) (hy : y = nI b := by rfl) (ha : a < 2 ^ 31 := by omega) (hb : b < 2 ^ 31 := by omega) : (x = y → A) ∧ (¬ x = y → B) := by
  subst hx hy
  rw [nI_eq ha hb]
  exact ⟨f, g⟩
theorem pk_in {x : Int32} (n N : Nat) (h : n < N) (hx : x = nI n := by rfl) (hN : N < 2 ^ 31 := by omega) : vp_in x N := by
  subst hx
  exact vp_in_nI h hN
theorem pk_cl {x : Int32} (n : Nat) (hx : x = nI n := by rfl) (h : n < 2 ^ 31 := by omega) : x.toNatClampNeg = n := by
  subst hx
  exact nI_clamp h
theorem pk_tn {n : Nat} (h : n < 2 ^ 32) : (nI n).toBitVec.toNat = n := Nat.mod_eq_of_lt h
theorem pk_and (x : Int32) {m : Int32} (k : Nat) (hm : m.toBitVec.toNat = 2 ^ k - 1) : x &&& m = nI (x.toBitVec.toNat % 2 ^ k) := by
  apply Int32.toBitVec_inj.mp
  apply BitVec.eq_of_toNat_eq
  rw [Int32.toBitVec_and, BitVec.toNat_and, hm, Nat.and_two_pow_sub_one_eq_mod]
  show _ = (BitVec.ofNat 32 _).toNat
  rw [BitVec.toNat_ofNat]
  exact (Nat.mod_eq_of_lt (Nat.lt_of_le_of_lt (Nat.mod_le _ _) x.toBitVec.isLt)).symm
theorem pk_andE (x : Int32) {m : Int32} (k : Nat) (hm : m.toBitVec.toNat = 2 ^ k - 1) : ∃ j : Nat, j < 2 ^ k ∧ x &&& m = nI j := ⟨_, Nat.mod_lt _ (Nat.two_pow_pos k), pk_and x k hm⟩
theorem pk_charN {q : Nat} (hq : q < 65536) : narrow .char (.int (nI q)) = .int (nI q) ∧ fits .char (.int (nI q)) = true := by
  constructor
  · have e : (nI q).toUInt32.toUInt16.toUInt32.toInt32 = nI q := by
      apply Int32.toBitVec_inj.mp
      apply BitVec.eq_of_toNat_eq
      show (nI q).toUInt32.toUInt16.toUInt32.toNat = q % 2 ^ 32
      rw [UInt16.toNat_toUInt32, UInt32.toNat_toUInt16, show (nI q).toUInt32.toNat = q % 2 ^ 32 from rfl]
      omega
    exact congrArg Value.int e
  · have a : (0 : Int32) ≤ nI q := nI_pos' (by omega)
    have b : nI q ≤ 65535 := nI_le (b := 65535) (by omega) (by decide)
    show (decide ((0 : Int32) ≤ nI q) && decide (nI q ≤ 65535)) = true
    rw [decide_eq_true a, decide_eq_true b]
    rfl
theorem pk_char (x : Int32) : (x.toUInt32 % 65536).toInt32 = nI (x.toBitVec.toNat % 65536) := by
  apply Int32.toBitVec_inj.mp
  apply BitVec.eq_of_toNat_eq
  rw [pk_tn (by omega)]
  show (x.toUInt32 % 65536).toNat = _
  rw [UInt32.toNat_mod]
  rfl
theorem pk_nc (x : Int32) : narrow .char (.int (x.toUInt32 % 65536).toInt32) = .int (x.toUInt32 % 65536).toInt32 := by
  rw [pk_char]
  exact (pk_charN (Nat.mod_lt _ (by decide))).1
theorem pk_vb (z : Int32) : vp_nar .byte z.toInt8.toInt32 = z.toInt8.toInt32 := by rw [vp_nar_byte]; simp
theorem pk_vs (z : Int32) : vp_nar .short z.toInt16.toInt32 = z.toInt16.toInt32 := by rw [vp_nar_short]; simp
theorem pk_vc (z : Int32) : vp_nar .char (z.toUInt32 % 65536).toInt32 = (z.toUInt32 % 65536).toInt32 := Value.int.inj (pk_nc z)
theorem wb_tb (n : Nat) : (lN n).toBitVec = BitVec.ofNat 64 n := rfl
theorem wb_inj {a b : Int64} (h : a.toBitVec = b.toBitVec) : a = b := Int64.toBitVec_inj.mp h
theorem wb_tn {n : Nat} (h : n < 2 ^ 64) : (lN n).toBitVec.toNat = n := by rw [wb_tb, BitVec.toNat_ofNat, Nat.mod_eq_of_lt h]
theorem wb_c : ∀ k, k < 64 → ((nI k).toInt64 &&& 63) = lN k := by decide +kernel
theorem wb_sm : ∀ k, k < 64 → (BitVec.ofNat 64 k).smod 64 = BitVec.ofNat 64 k := by decide +kernel
theorem wb_shl (n : Nat) {k : Nat} (hk : k < 64) : lN n <<< ((nI k).toInt64 &&& 63) = lN (n * 2 ^ k) := by
  rw [wb_c k hk]
  apply wb_inj
  rw [Int64.toBitVec_shiftLeft, wb_tb, wb_tb, wb_tb, wb_sm k hk]
  apply BitVec.eq_of_toNat_eq
  rw [BitVec.shiftLeft_eq', BitVec.toNat_shiftLeft, BitVec.toNat_ofNat, BitVec.toNat_ofNat, BitVec.toNat_ofNat, Nat.mod_eq_of_lt (show k < 2 ^ 64 by omega), Nat.shiftLeft_eq, Nat.mul_mod, Nat.mod_mod, ← Nat.mul_mod]
theorem wb_or {a b : Nat} (ha : a < 2 ^ 64) (hb : b < 2 ^ 64) : lN a ||| lN b = lN (a ||| b) := by
  apply wb_inj
  rw [Int64.toBitVec_or, wb_tb, wb_tb, wb_tb]
  apply BitVec.eq_of_toNat_eq
  rw [BitVec.toNat_or, BitVec.toNat_ofNat, BitVec.toNat_ofNat, BitVec.toNat_ofNat, Nat.mod_eq_of_lt ha, Nat.mod_eq_of_lt hb, Nat.mod_eq_of_lt (Nat.or_lt_two_pow ha hb)]
theorem u_tn {n : Nat} (h : n < 2 ^ 64) : (UInt64.ofNat n).toNat = n := Nat.mod_eq_of_lt h
theorem g_or {k p a b : Nat} (hp : 2 ^ k = p) (ha : a < p) (h : b * p + a < 2 ^ 64) : lN (b * p) ||| lN a = lN (b * p + a) := by
  subst hp
  have h1 : b * 2 ^ k ||| a = b * 2 ^ k + a := by rw [← Nat.shiftLeft_eq, Nat.shiftLeft_add_eq_or_of_lt ha]
  have h3 : UInt64.ofNat (b * 2 ^ k) ||| UInt64.ofNat a = UInt64.ofNat (b * 2 ^ k + a) := UInt64.toNat_inj.mp (by rw [UInt64.toNat_or, u_tn (by omega), u_tn (by omega), u_tn h, h1])
  have h2 := congrArg UInt64.toInt64 h3
  exact h2
end
section
/-! the pure picture: children, own fields, the permitted set -/
/-- byte k of an int, as both sides cut it -/
def fr_b (w : Int32) (k : Nat) : Int32 := (w >>> ((8 * nI k) &&& 31)).toInt8.toInt32
/-- the entry that index i names, seen from entry e: followed only below e -/
def fr_ch (i : Int32) (e : Nat) : Option Nat := if i < 0 ∨ nI e ≤ i then none else some i.toNatClampNeg
/-- a table's value at a child -/
def fr_cv (m : Nat → Int64) : Option Nat → Int64
  | none => 0
  | some j => m j
theorem fr_ch_n {i : Int32} {e : Nat} (h : i < 0 ∨ nI e ≤ i) : fr_ch i e = none := if_pos h
theorem fr_ch_s {j e : Nat} (h : j < e) (he : e < 2 ^ 31) : fr_ch (nI j) e = some j := by
  have hn : ¬ (nI j < 0 ∨ nI e ≤ nI j) := fun z => z.elim (nI_pos (by omega)) (nI_ge h he)
  unfold fr_ch
  rw [if_neg hn, nI_clamp (by omega)]
theorem fr_ch_lt {i : Int32} {e j : Nat} (he : e < 2 ^ 31) (h : fr_ch i e = some j) : j < e ∧ i = nI j := by
  rcases pk_ix i he with z | z | ⟨q, hq, rfl⟩
  · rw [fr_ch_n (Or.inl z)] at h; exact nomatch h
  · rw [fr_ch_n (Or.inr z)] at h; exact nomatch h
  · rw [fr_ch_s hq he] at h
    cases h
    exact ⟨hq, rfl⟩
/-- the printed test of a child -/
theorem fr_br {A B : Prop} (i x : Int32) (e : Nat) (he : e < 2 ^ 31) (hx : x = nI e) (hn : fr_ch i e = none → A) (hs : ∀ j, j < e → i = nI j → fr_ch i e = some j → B) : (i < 0 → A) ∧ (¬ i < 0 → ((x ≤ i → A) ∧ (¬ x ≤ i → B))) := by
  subst hx
  rcases pk_ix i he with z | z | ⟨q, hq, rfl⟩
  · exact br_t z (hn (fr_ch_n (Or.inl z)))
  · exact ⟨fun y => hn (fr_ch_n (Or.inl y)), fun _ => br_t z (hn (fr_ch_n (Or.inr z)))⟩
  · exact br_f (nI_pos (by omega)) (br_f (nI_ge hq he) (hs q hq rfl (fr_ch_s hq he)))
/-- the mask of the fields below j that x owns under the name s -/
def fr_ow (O S : Nat → Int32) (s x : Int32) : Nat → Int64
  | 0 => 0
  | j + 1 => if O j = x ∧ S j = s then (1 : Int64) <<< ((nI j).toInt64 &&& 63) else fr_ow O S s x j
theorem fr_ow_p {O S : Nat → Int32} {s x : Int32} {j : Nat} (h : O j = x ∧ S j = s) : fr_ow O S s x (j + 1) = (1 : Int64) <<< ((nI j).toInt64 &&& 63) := if_pos h
theorem fr_ow_n {O S : Nat → Int32} {s x : Int32} {j : Nat} (h : ¬ (O j = x ∧ S j = s)) : fr_ow O S s x (j + 1) = fr_ow O S s x j := if_neg h
theorem fr_ow_0 {O S : Nat → Int32} {s x : Int32} : ∀ j, (∀ i, i < j → ¬ (O i = x ∧ S i = s)) → fr_ow O S s x j = 0 := by
  intro j
  induction j with
  | zero => intro _; rfl
  | succ j ih =>
    intro h
    rw [fr_ow_n (h j (by omega))]
    exact ih (fun i hi => h i (by omega))
theorem fr_bit : ∀ j, j < 12 → ¬ (1 : Int64) <<< ((nI j).toInt64 &&& 63) = 0 := by decide +kernel
theorem fr_ow_ne {O S : Nat → Int32} {s x : Int32} : ∀ j, j ≤ 12 → ∀ i, i < j → (O i = x ∧ S i = s) → ¬ fr_ow O S s x j = 0 := by
  intro j
  induction j with
  | zero => intro _ i hi; exact absurd hi (by omega)
  | succ j ih =>
    intro hj i hi h
    by_cases z : O j = x ∧ S j = s
    · rw [fr_ow_p z]; exact fr_bit j (by omega)
    · rw [fr_ow_n z]
      by_cases e : i = j
      · subst e; exact absurd h z
      · exact ih (by omega) i (by omega) h
/-- the union over the first k slots -/
def fr_or (sl : Nat → Int32) (m : Nat → Int64) (e : Nat) : Nat → Int64
  | 0 => 0
  | k + 1 => fr_or sl m e k ||| fr_cv m (fr_ch (sl k) e)
theorem fr_or_n {sl : Nat → Int32} {m : Nat → Int64} {e k : Nat} (h : fr_ch (sl k) e = none) : fr_or sl m e (k + 1) = fr_or sl m e k := by
  show fr_or sl m e k ||| fr_cv m (fr_ch (sl k) e) = _
  rw [h]
  exact Int64.or_zero
theorem fr_or_s {sl : Nat → Int32} {m : Nat → Int64} {e k j : Nat} (h : fr_ch (sl k) e = some j) : fr_or sl m e (k + 1) = fr_or sl m e k ||| m j := by
  show fr_or sl m e k ||| fr_cv m (fr_ch (sl k) e) = _
  rw [h]
  rfl
theorem fr_cv_c {m m' : Nat → Int64} {i : Int32} {e : Nat} (he : e < 2 ^ 31) (h : ∀ j, j < e → m j = m' j) : fr_cv m (fr_ch i e) = fr_cv m' (fr_ch i e) := by
  cases z : fr_ch i e with
  | none => rfl
  | some j => exact h j (fr_ch_lt he z).1
theorem fr_or_c {sl sl' : Nat → Int32} {m m' : Nat → Int64} {e : Nat} (he : e < 2 ^ 31) (h : ∀ j, j < e → m j = m' j) : ∀ k, (∀ i, i < k → sl i = sl' i) → fr_or sl m e k = fr_or sl' m' e k := by
  intro k
  induction k with
  | zero => intro _; rfl
  | succ k ih =>
    intro hs
    show fr_or sl m e k ||| fr_cv m (fr_ch (sl k) e) = fr_or sl' m' e k ||| fr_cv m' (fr_ch (sl' k) e)
    rw [ih (fun i hi => hs i (by omega)), hs k (by omega), fr_cv_c he h]
theorem fr_or0 {a b : Int64} : a ||| b = 0 ↔ a = 0 ∧ b = 0 := by
  rw [← Int64.toBitVec_inj, ← Int64.toBitVec_inj, ← Int64.toBitVec_inj, Int64.toBitVec_or]
  exact BitVec.or_eq_zero_iff
theorem fr_or_z {sl : Nat → Int32} {m : Nat → Int64} {e : Nat} : ∀ k, fr_or sl m e k = 0 ↔ ∀ i, i < k → fr_cv m (fr_ch (sl i) e) = 0 := by
  intro k
  induction k with
  | zero => exact ⟨fun _ i hi => absurd hi (by omega), fun _ => rfl⟩
  | succ k ih =>
    show fr_or sl m e k ||| fr_cv m (fr_ch (sl k) e) = 0 ↔ _
    rw [fr_or0, ih]
    constructor
    · intro h i hi
      by_cases z : i = k
      · rw [z]; exact h.2
      · exact h.1 i (by omega)
    · intro h
      exact ⟨fun i hi => h i (by omega), h k (by omega)⟩
/-- behind the slots: the superclass, if nothing is there yet -/
def fr_up (q : Int64) (su : Int32) (m : Nat → Int64) (e : Nat) : Int64 := if q = 0 then fr_cv m (fr_ch su e) else q
/-- one entry's set out of the sets below it -/
def fr_st (own : Int64) (sl : Nat → Int32) (su : Int32) (m : Nat → Int64) (e : Nat) : Int64 := fr_up (if own = 0 then fr_or sl m e 4 else own) su m e
theorem fr_st_0 {own : Int64} {sl : Nat → Int32} {su : Int32} {m : Nat → Int64} {e : Nat} (h : own = 0) : fr_st own sl su m e = fr_up (fr_or sl m e 4) su m e := by
  unfold fr_st
  rw [if_pos h]
theorem fr_st_1 {own : Int64} {sl : Nat → Int32} {su : Int32} {m : Nat → Int64} {e : Nat} (h : ¬ own = 0) : fr_st own sl su m e = fr_up own su m e := by
  unfold fr_st
  rw [if_neg h]
theorem fr_st_c {own : Int64} {sl sl' : Nat → Int32} {su : Int32} {m m' : Nat → Int64} {e : Nat} (he : e < 2 ^ 31) (hs : ∀ i, i < 4 → sl i = sl' i) (h : ∀ j, j < e → m j = m' j) : fr_st own sl su m e = fr_st own sl' su m' e := by
  unfold fr_st fr_up
  rw [fr_or_c he h 4 hs, fr_cv_c he h]
theorem fr_st_z {own : Int64} {sl : Nat → Int32} {su : Int32} {m : Nat → Int64} {e : Nat} : fr_st own sl su m e = 0 ↔ own = 0 ∧ (∀ i, i < 4 → fr_cv m (fr_ch (sl i) e) = 0) ∧ fr_cv m (fr_ch su e) = 0 := by
  by_cases h : own = 0
  · rw [fr_st_0 h]
    unfold fr_up
    by_cases g : fr_or sl m e 4 = 0
    · rw [if_pos g]
      exact ⟨fun z => ⟨h, (fr_or_z 4).mp g, z⟩, fun z => z.2.2⟩
    · rw [if_neg g]
      exact ⟨fun z => absurd z g, fun z => absurd ((fr_or_z 4).mpr z.2.1) g⟩
  · rw [fr_st_1 h]
    unfold fr_up
    rw [if_neg h]
    exact ⟨fun z => absurd z h, fun z => absurd z.1 h⟩
/-- the table filled from entry 0 upward -/
def fr_T (ow : Nat → Int64) (sl : Nat → Nat → Int32) (su : Nat → Int32) : Nat → Nat → Int64
  | 0 => fun _ => 0
  | e + 1 => fun j => if j = e then fr_st (ow e) (sl e) (su e) (fr_T ow sl su e) e else fr_T ow sl su e j
/-- the permitted set of every entry -/
def fr_M (ow : Nat → Int64) (sl : Nat → Nat → Int32) (su : Nat → Int32) (j : Nat) : Int64 := fr_T ow sl su (j + 1) j
theorem fr_T_M {ow : Nat → Int64} {sl : Nat → Nat → Int32} {su : Nat → Int32} : ∀ e j, j < e → fr_T ow sl su e j = fr_M ow sl su j := by
  intro e
  induction e with
  | zero => intro j hj; exact absurd hj (by omega)
  | succ e ih =>
    intro j hj
    by_cases z : j = e
    · subst z; rfl
    · have h : fr_T ow sl su (e + 1) j = fr_T ow sl su e j := if_neg z
      rw [h]
      exact ih j (by omega)
theorem fr_M_e {ow : Nat → Int64} {sl : Nat → Nat → Int32} {su : Nat → Int32} {e : Nat} (he : e < 2 ^ 31) : fr_M ow sl su e = fr_st (ow e) (sl e) (su e) (fr_M ow sl su) e := by
  have h : fr_T ow sl su (e + 1) e = fr_st (ow e) (sl e) (su e) (fr_T ow sl su e) e := if_pos rfl
  show fr_T ow sl su (e + 1) e = _
  rw [h]
  exact fr_st_c he (fun _ _ => rfl) (fun j hj => fr_T_M e j hj)
theorem fr_uu {f : Nat → Int64} {k : Nat} {x y : Int64} : vp_updL (vp_updL f k x) k y = vp_updL f k y := by
  funext j
  by_cases z : j = k
  · subst z; rw [pk_uLs, pk_uLs]
  · rw [pk_uLn z, pk_uLn z, pk_uLn z]
/-- what the two tables keep, and what the fields below f keep -/
def fr_Inv (cl f : Nat) (I O S G w : Nat → Int32) : Prop :=
  cl ≤ 8 ∧ f ≤ 12 ∧ (∀ e k, e < 8 → k < 4 → I (e * 4 + k) = fr_b (w e) k) ∧ (∀ i j, i < f → j < f → O i = O j → S i = S j → i = j) ∧ (∀ i, i < f → (∃ o, o < 8 ∧ O i = nI o) ∧ (∃ q, q < 65536 ∧ S i = nI q) ∧ -32768 ≤ (G i).toInt ∧ (G i).toInt < 32768)
def i_Rel (_k : Nat) (u : SX) (v : SY) : Prop :=
  ∃ (cl f : Nat) (P F I O S G : Nat → Int32) (sc : Nat → Int64) (w : Nat → Int32) (my : Nat → Int64) (tC tK : Nat → Int32), u = (nI cl, nI f, P, F, I, O, S, G, sc) ∧ v = (nI cl, nI f, P, F, w, O, S, G, my, tC, tK) ∧ fr_Inv cl f I O S G w
theorem i_up {k : Nat} {u : SX} {v : SY} (h : i_Rel k u v) : i_Rel (k + 5) u v := h
end
section
/-! permitted, the component's side -/
section
variable {post : Int64 → SX → Prop} {J : Int32 → (Nat → Int32) → (Nat → Int32) → (Nat → Int32) → (Nat → Int32) → (Nat → Int32) → (Nat → Int32) → (Nat → Int64) → Prop} {x1 s : Int32} {P F I O S G : Nat → Int32} {sc : Nat → Int64}
theorem px_32 {x cl : Int32} {f : Nat} (hf : f ≤ 12)
    (h0 : fr_ow O S s x f = 0 → ∃ n, wX_permitted_86 post J x1 s x cl (nI f) P F I O S G sc n (fr_ow O S s x f) 0)
    (h1 : ¬ fr_ow O S s x f = 0 → wX_permitted_136 post J x1 s x (fr_ow O S s x f) cl (nI f) P F I O S G sc) :
    ∀ d j, j + d = f → wX_permitted_32 post J x1 s x cl (nI f) P F I O S G sc (d + 1) (fr_ow O S s x j) (nI j) := by
  intro d
  induction d with
  | zero =>
    intro j hj
    have ej : j = f := by omega
    subst ej
    exact br_t (nI_le (Nat.le_refl _) (by omega)) (br_c h0 h1)
  | succ d ih =>
    intro j hj
    have hn : ¬ nI f ≤ nI j := nI_ge (by omega) (by omega)
    have hi : vp_in (nI j) 12 := vp_in_nI (by omega) (by omega)
    have ec : (nI j).toNatClampNeg = j := nI_clamp (by omega)
    have hk := ih (j + 1) (by omega)
    refine br_f hn ⟨hi, br_c (fun hO => ⟨hi, br_c (fun hS => ?_) (fun hS => ?_)⟩) (fun hO => ?_)⟩
    · rw [ec] at hO hS
      rw [fr_ow_p ⟨hO, hS⟩] at hk
      intro y ey z ez
      rw [ey, ez, nI_1]
      exact hk
    · rw [ec] at hO hS
      rw [fr_ow_n (fun q => hS q.2)] at hk
      intro z ez
      rw [ez, nI_1]
      exact hk
    · rw [ec] at hO
      rw [fr_ow_n (fun q => hO q.1)] at hk
      intro z ez
      rw [ez, nI_1]
      exact hk
theorem px_136 {cl f : Int32} {e : Nat} (he : e < 8) {p : Int64}
    (K : J (nI (e + 1)) P F I O S G (vp_updL sc e (fr_up p (P e) sc e))) :
    wX_permitted_136 post J x1 s (nI e) p cl f P F I O S G sc := by
  have hi : vp_in (nI e) 8 := vp_in_nI he (by omega)
  have ec : (nI e).toNatClampNeg = e := nI_clamp (by omega)
  unfold wX_permitted_136
  rw [ec]
  refine br_c (fun h0 => ?_) (fun h0 => ?_)
  · have eu : fr_up p (P e) sc e = fr_cv sc (fr_ch (P e) e) := if_pos h0
    rw [eu] at K
    refine ⟨hi, fun y ey => ?_⟩
    subst ey
    refine fr_br _ _ e (by omega) rfl (fun hc => ?_) (fun j hj hy hc => ?_)
    · rw [hc] at K
      refine ⟨hi, fun z ez t et => ?_⟩
      rw [ez, et, nI_1, h0]
      exact K
    · rw [hc] at K
      rw [hy, nI_clamp (show j < 2 ^ 31 by omega)]
      refine ⟨vp_in_nI (by omega) (by omega), fun v ev => ⟨hi, fun z ez t et => ?_⟩⟩
      rw [ez, et, nI_1, ev]
      exact K
  · have eu : fr_up p (P e) sc e = p := if_neg h0
    rw [eu] at K
    refine ⟨hi, fun z ez t et => ?_⟩
    rw [ez, et, nI_1]
    exact K
theorem px_86 {cl f : Int32} {e : Nat} (he : e < 8)
    (K : wX_permitted_136 post J x1 s (nI e) (fr_or (fun k => I (e * 4 + k)) sc e 4) cl f P F I O S G sc) :
    ∀ d k, k + d = 4 → wX_permitted_86 post J x1 s (nI e) cl f P F I O S G sc (d + 1) (fr_or (fun k => I (e * 4 + k)) sc e k) (nI k) := by
  intro d
  induction d with
  | zero =>
    intro k hk
    have ek : k = 4 := by omega
    subst ek
    exact br_t (nI_le (a := 4) (b := 4) (Nat.le_refl _) (by decide)) K
  | succ d ih =>
    intro k hk
    have hn : ¬ (4 : Int32) ≤ nI k := nI_ge (b := 4) (by omega) (by decide)
    have ei : nI e * 4 + nI k = nI (e * 4 + k) := by
      show nI e * nI 4 + nI k = _
      rw [pk_mul, nI_add]
    have hi : vp_in (nI (e * 4 + k)) 32 := vp_in_nI (by omega) (by omega)
    have ec : (nI (e * 4 + k)).toNatClampNeg = e * 4 + k := nI_clamp (by omega)
    have hj := ih (k + 1) (by omega)
    refine br_f hn ?_
    rw [ei, ec]
    refine ⟨hi, fun y ey => ?_⟩
    subst ey
    refine fr_br _ _ e (by omega) rfl (fun hc => ?_) (fun j hj' hy hc => ?_)
    · rw [fr_or_n (sl := fun k => I (e * 4 + k)) hc] at hj
      intro z ez
      rw [ez, nI_1]
      exact hj
    · rw [fr_or_s (sl := fun k => I (e * 4 + k)) hc] at hj
      rw [hy, nI_clamp (show j < 2 ^ 31 by omega)]
      refine ⟨vp_in_nI (by omega) (by omega), fun v ev z ez => ?_⟩
      rw [ez, nI_1, ev]
      exact hj
theorem px_20 {cl f c : Nat} (hc : c < cl) (h8 : cl ≤ 8) (hf : f ≤ 12) {M : Nat → Int64}
    (hM : ∀ e, e < 8 → M e = fr_st (fr_ow O S s (nI e) f) (fun k => I (e * 4 + k)) (P e) M e)
    (K : ∀ sc', post (M c) (nI cl, nI f, P, F, I, O, S, G, sc')) :
    ∀ d e sc, e + d = c + 1 → (∀ j, j < e → sc j = M j) → wX_permitted_20 post (nI c) s (nI cl) (nI f) (d + 1) (nI e) P F I O S G sc := by
  intro d
  induction d with
  | zero =>
    intro e sc he hs
    have hb : (nI c).toNatClampNeg = c := nI_clamp (by omega)
    refine br_t (nI_lt (by omega) (by omega)) ⟨vp_in_nI (by omega) (by omega), ?_⟩
    rw [hb, hs c (by omega)]
    exact K sc
  | succ d ih =>
    intro e sc he hs
    have e8 : e < 8 := by omega
    have hK := ih (e + 1) (vp_updL sc e (M e)) (by omega) (by
      intro j hj
      by_cases z : j = e
      · rw [z, pk_uLs]
      · rw [pk_uLn z]; exact hs j (by omega))
    have eM : fr_st (fr_ow O S s (nI e) f) (fun k => I (e * 4 + k)) (P e) sc e = M e :=
      (fr_st_c (by omega) (fun _ _ => rfl) hs).trans (hM e e8).symm
    refine br_f (nI_nlt (by omega) (by omega)) ⟨f + 1, px_32 hf (fun h0 => ⟨5, ?_⟩) (fun h1 => ?_) f 0 (by omega)⟩
    · rw [fr_st_0 h0] at eM
      rw [← eM] at hK
      rw [h0]
      exact px_86 e8 (px_136 e8 hK) 4 0 (by omega)
    · rw [fr_st_1 h1] at eM
      rw [← eM] at hK
      exact px_136 e8 hK
end
/-- the component's permitted, against any table M that the step law rules -/
theorem px_perm {post : Int64 → SX → Prop} {P F I O S G : Nat → Int32} {sc : Nat → Int64} {cl f c : Nat} {v : Int32} (hc : c < cl) (h8 : cl ≤ 8) (hf : f ≤ 12) {M : Nat → Int64}
    (hM : ∀ e, e < 8 → M e = fr_st (fr_ow O S (v.toUInt32 % 65536).toInt32 (nI e) f) (fun k => I (e * 4 + k)) (P e) M e)
    (K : ∀ sc', post (M c) (nI cl, nI f, P, F, I, O, S, G, sc')) :
    wpX_permitted post (nI cl, nI f, P, F, I, O, S, G, sc) (nI c) v :=
  br_f (nI_pos (by omega)) (br_t (nI_lt hc (by omega)) (nm_e ⟨c + 2, px_20 hc h8 hf hM K (c + 1) 0 sc (by omega) (fun j hj => absurd hj (by omega))⟩))
end
section
/-! permitted, the reference's side -/
section
variable {post : Int64 → SY → Prop} {J : Int64 → Int32 → (Nat → Int32) → (Nat → Int32) → (Nat → Int32) → (Nat → Int32) → (Nat → Int32) → (Nat → Int32) → (Nat → Int64) → (Nat → Int32) → (Nat → Int32) → Prop} {x1 s : Int32} {P F w O S G : Nat → Int32} {my : Nat → Int64} {tC tK : Nat → Int32}
theorem py_41 {cl : Int32} {f e : Nat} (hf : f ≤ 12) (he : e < 8)
    (hu : ∀ i j, i < f → j < f → O i = O j → S i = S j → i = j)
    (K : ∃ n, wY_permitted_98 post J x1 s (nI e) (fr_ow O S s (nI e) f) cl (nI f) n 0 P F w O S G (vp_updL my e (fr_ow O S s (nI e) f)) tC tK) :
    ∀ d j, j + d = f → wY_permitted_41 post J x1 s (nI e) cl (nI f) P F w O S G my tC tK (d + 1) (fr_ow O S s (nI e) j) (nI j) := by
  intro d
  induction d with
  | zero =>
    intro j hj
    have ej : j = f := by omega
    subst ej
    have ee : (nI e).toNatClampNeg = e := nI_clamp (by omega)
    refine br_t (nI_le (Nat.le_refl _) (by omega)) ⟨vp_in_nI he (by omega), ?_⟩
    rw [ee]
    exact nm_e K
  | succ d ih =>
    intro j hj
    have hn : ¬ nI f ≤ nI j := nI_ge (by omega) (by omega)
    have hi : vp_in (nI j) 12 := vp_in_nI (by omega) (by omega)
    have ec : (nI j).toNatClampNeg = j := nI_clamp (by omega)
    have hk := ih (j + 1) (by omega)
    refine br_f hn ⟨hi, br_c (fun hO => ⟨hi, br_c (fun hS => ?_) (fun hS => ?_)⟩) (fun hO => ?_)⟩
    · rw [ec] at hO hS
      have h0 : fr_ow O S s (nI e) j = 0 := fr_ow_0 j (fun i hi' hm => by
        have := hu i j (by omega) (by omega) (hm.1.trans hO.symm) (hm.2.trans hS.symm)
        omega)
      rw [fr_ow_p ⟨hO, hS⟩] at hk
      intro y ey z ez
      rw [ey, ez, nI_1, h0, Int64.zero_add]
      exact hk
    · rw [ec] at hO hS
      rw [fr_ow_n (fun q => hS q.2)] at hk
      intro z ez
      rw [ez, nI_1]
      exact hk
    · rw [ec] at hO
      rw [fr_ow_n (fun q => hO q.1)] at hk
      intro z ez
      rw [ez, nI_1]
      exact hk
theorem py_156 {cl f : Int32} {e : Nat} (he : e < 8) {q : Int64}
    (K : J (fr_up q (P e) my e) (nI (e + 1)) P F w O S G (vp_updL my e (fr_up q (P e) my e)) tC tK) :
    wY_permitted_156 post J x1 s (nI e) cl f P F w O S G (vp_updL my e q) tC tK := by
  have hi : vp_in (nI e) 8 := vp_in_nI he (by omega)
  have ec : (nI e).toNatClampNeg = e := nI_clamp (by omega)
  unfold wY_permitted_156
  rw [ec]
  refine ⟨hi, fun y ey => ⟨hi, fun x ex => ?_⟩⟩
  rw [pk_uLs] at ex
  rw [ex, ey]
  refine br_c (fun h0 => ?_) (fun h0 => ?_)
  · have eu : fr_up q (P e) my e = fr_cv my (fr_ch (P e) e) := if_pos h0
    rw [eu] at K
    refine fr_br _ _ e (by omega) rfl (fun hc => ?_) (fun j hj hy hc => ?_)
    · rw [hc] at K
      intro t et
      rw [et, nI_1, h0]
      exact K
    · rw [hc] at K
      have hv : vp_updL my e q j = my j := pk_uLn (by omega)
      rw [hy, nI_clamp (show j < 2 ^ 31 by omega), hv, fr_uu]
      refine ⟨vp_in_nI (by omega) (by omega), hi, fun z ez u eu' t et => ?_⟩
      rw [ez, et, nI_1, eu']
      exact K
  · have eu : fr_up q (P e) my e = q := if_neg h0
    rw [eu] at K
    intro t et
    rw [et, nI_1]
    exact K
theorem py_98 {cl f : Int32} {e : Nat} (he : e < 8)
    (K : wY_permitted_156 post J x1 s (nI e) cl f P F w O S G (vp_updL my e (fr_or (fr_b (w e)) my e 4)) tC tK) :
    ∀ d k, k + d = 4 → wY_permitted_98 post J x1 s (nI e) 0 cl f (d + 1) (nI k) P F w O S G (vp_updL my e (fr_or (fr_b (w e)) my e k)) tC tK := by
  intro d
  induction d with
  | zero =>
    intro k hk
    have ek : k = 4 := by omega
    subst ek
    exact br_t (nI_le (a := 4) (b := 4) (Nat.le_refl _) (by decide)) K
  | succ d ih =>
    intro k hk
    have hn : ¬ (4 : Int32) ≤ nI k := nI_ge (b := 4) (by omega) (by decide)
    have hi : vp_in (nI e) 8 := vp_in_nI he (by omega)
    have ec : (nI e).toNatClampNeg = e := nI_clamp (by omega)
    have hj := ih (k + 1) (by omega)
    refine br_f hn (br_t rfl ?_)
    rw [ec]
    refine ⟨hi, fun y ey => ?_⟩
    have ey' : y = fr_b (w e) k := ey
    rw [ey']
    refine fr_br _ _ e (by omega) rfl (fun hc => ?_) (fun j hj' hy hc => ?_)
    · rw [fr_or_n hc] at hj
      intro z ez
      rw [ez, nI_1]
      exact hj
    · rw [fr_or_s hc] at hj
      have hv : vp_updL my e (fr_or (fr_b (w e)) my e k) j = my j := pk_uLn (by omega)
      rw [hy, nI_clamp (show j < 2 ^ 31 by omega), hv, pk_uLs, fr_uu]
      refine ⟨hi, vp_in_nI (by omega) (by omega), hi, fun v ev z ez => ?_⟩
      rw [ez, nI_1, ev]
      exact hj
theorem py_29 {cl f c : Nat} (hc : c < cl) (h8 : cl ≤ 8) (hf : f ≤ 12) {M : Nat → Int64}
    (hu : ∀ i j, i < f → j < f → O i = O j → S i = S j → i = j)
    (hM : ∀ e, e < 8 → M e = fr_st (fr_ow O S s (nI e) f) (fr_b (w e)) (P e) M e)
    (K : ∀ my', post (M c) (nI cl, nI f, P, F, w, O, S, G, my', tC, tK)) :
    ∀ d e my l, e + d = c + 1 → (∀ j, j < e → my j = M j) → (∀ j, j + 1 = e → l = M j) → wY_permitted_29 post (nI c) s (nI cl) (nI f) (d + 1) l (nI e) P F w O S G my tC tK := by
  intro d
  induction d with
  | zero =>
    intro e my l he hs hl
    refine br_t (nI_lt (by omega) (by omega)) ?_
    rw [hl c (by omega)]
    exact K my
  | succ d ih =>
    intro e my l he hs hl
    have e8 : e < 8 := by omega
    have hK := ih (e + 1) (vp_updL my e (M e)) (M e) (by omega) (by
      intro j hj
      by_cases z : j = e
      · rw [z, pk_uLs]
      · rw [pk_uLn z]; exact hs j (by omega)) (by
      intro j hj
      have z : j = e := by omega
      rw [z])
    have eM : fr_st (fr_ow O S s (nI e) f) (fr_b (w e)) (P e) my e = M e :=
      (fr_st_c (by omega) (fun _ _ => rfl) hs).trans (hM e e8).symm
    refine br_f (nI_nlt (by omega) (by omega)) ⟨f + 1, py_41 hf e8 hu ?_ f 0 (by omega)⟩
    by_cases h0 : fr_ow O S s (nI e) f = 0
    · rw [fr_st_0 h0] at eM
      rw [← eM] at hK
      rw [h0]
      exact ⟨5, py_98 e8 (py_156 e8 hK) 4 0 (by omega)⟩
    · rw [fr_st_1 h0] at eM
      rw [← eM] at hK
      exact ⟨1, br_f (nI_ge (a := 0) (b := 4) (by decide) (by decide)) (br_f h0 (py_156 e8 hK))⟩
end
/-- the reference's permitted, against any table M that the step law rules -/
theorem py_perm {post : Int64 → SY → Prop} {P F w O S G : Nat → Int32} {my : Nat → Int64} {tC tK : Nat → Int32} {cl f c : Nat} {v : Int32} (hc : c < cl) (h8 : cl ≤ 8) (hf : f ≤ 12) {M : Nat → Int64}
    (hu : ∀ i j, i < f → j < f → O i = O j → S i = S j → i = j)
    (hM : ∀ e, e < 8 → M e = fr_st (fr_ow O S (v.toUInt32 % 65536).toInt32 (nI e) f) (fr_b (w e)) (P e) M e)
    (K : ∀ my', post (M c) (nI cl, nI f, P, F, w, O, S, G, my', tC, tK)) :
    wpY_permitted post (nI cl, nI f, P, F, w, O, S, G, my, tC, tK) (nI c) v :=
  br_f (nI_pos (by omega)) (br_t (nI_lt hc (by omega)) (nm_e ⟨c + 2, py_29 hc h8 hf hu hM K (c + 1) 0 my 0 (by omega) (fun j hj => absurd hj (by omega)) (fun j hj => absurd hj (by omega))⟩))
end
section
/-! lookup by a stack, as a machine W (fuel, top, the two stacks) with three step rules; nothing printed is in sight -/
/-- what state k of entry d looks at next -/
def fr_nx (P w : Nat → Int32) (d k : Nat) : Int32 := if k = 0 then -1 else if k ≤ 4 then fr_b (w d) (k - 1) else P d
/-- a visit of entry d on top of any stack: a hit somewhere below, or the entry is popped -/
def yl_V (W : Nat → Int32 → (Nat → Int32) → (Nat → Int32) → Prop) (M : Nat → Int64) (H : Prop) (d : Nat) : Prop :=
  ∃ N : Nat, ∀ (n sp : Nat) (tC tK : Nat → Int32), sp + d ≤ 7 → tC sp = nI d → tK sp = nI 0 → (¬ M d = 0 → H) → (M d = 0 → ∀ tC' tK' : Nat → Int32, (∀ j, j < sp → tC' j = tC j ∧ tK' j = tK j) → W n (nI sp + (-1)) tC' tK') → W (n + N) (nI sp) tC tK
theorem yl_S {W : Nat → Int32 → (Nat → Int32) → (Nat → Int32) → Prop} {M : Nat → Int64} {H : Prop} {nx : Nat → Nat → Int32} {d : Nat} (hd : d < 8)
    (Rk : ∀ (n sp k : Nat) (tC tK : Nat → Int32), sp < 8 → 1 ≤ k → k ≤ 5 → tC sp = nI d → tK sp = nI k →
      (fr_ch (nx d k) d = none → W n (nI sp) tC (upd tK sp (nI (k + 1)))) →
      (∀ i, i < d → fr_ch (nx d k) d = some i → sp + 1 < 8 ∧ W n (nI (sp + 1)) (upd tC (sp + 1) (nI i)) (upd (upd tK sp (nI (k + 1))) (sp + 1) (nI 0))) →
      W (n + 1) (nI sp) tC tK)
    (R6 : ∀ (n sp : Nat) (tC tK : Nat → Int32), sp < 8 → tC sp = nI d → tK sp = nI 6 → W n (nI sp + (-1)) tC (upd tK sp (nI 7)) → W (n + 1) (nI sp) tC tK)
    (V : ∀ i, i < d → yl_V W M H i) :
    ∀ r k, k + r = 6 → 1 ≤ k → ∃ N : Nat, ∀ (n sp : Nat) (tC tK : Nat → Int32), sp + d ≤ 7 → tC sp = nI d → tK sp = nI k →
      ((∃ l, k ≤ l ∧ l ≤ 5 ∧ ¬ fr_cv M (fr_ch (nx d l) d) = 0) → H) →
      ((∀ l, k ≤ l → l ≤ 5 → fr_cv M (fr_ch (nx d l) d) = 0) → ∀ tC' tK' : Nat → Int32, (∀ j, j < sp → tC' j = tC j ∧ tK' j = tK j) → W n (nI sp + (-1)) tC' tK') →
      W (n + N) (nI sp) tC tK := by
  intro r
  induction r with
  | zero =>
    intro k hk _
    have ek : k = 6 := by omega
    subst ek
    refine ⟨1, fun n sp tC tK h1 h2 h3 _ hZ => R6 n sp tC tK (by omega) h2 h3 ?_⟩
    exact hZ (fun l a b => absurd a (by omega)) tC (upd tK sp (nI 7)) (fun j hj => ⟨rfl, pk_un (by omega)⟩)
  | succ r ih =>
    intro k hk hk1
    obtain ⟨N, hN⟩ := ih (k + 1) (by omega) (by omega)
    cases hc : fr_ch (nx d k) d with
    | none =>
      refine ⟨N + 1, fun n sp tC tK h1 h2 h3 hH hZ => Rk (n + N) sp k tC tK (by omega) hk1 (by omega) h2 h3 (fun _ => ?_) (fun i _ hs => ?_)⟩
      · refine hN n sp tC (upd tK sp (nI (k + 1))) h1 h2 pk_us (fun z => ?_) (fun hz tC' tK' ag => ?_)
        · obtain ⟨l, a, b, q⟩ := z
          exact hH ⟨l, by omega, b, q⟩
        · refine hZ (fun l a b => ?_) tC' tK' (fun j hj => ⟨(ag j hj).1, (ag j hj).2.trans (pk_un (by omega))⟩)
          by_cases e : l = k
          · rw [e, hc]; rfl
          · exact hz l (by omega) b
      · rw [hc] at hs; exact nomatch hs
    | some i =>
      have hi := (fr_ch_lt (show d < 2 ^ 31 by omega) hc).1
      obtain ⟨Ni, hV⟩ := V i hi
      refine ⟨N + Ni + 1, fun n sp tC tK h1 h2 h3 hH hZ => ?_⟩
      have e : n + (N + Ni + 1) = n + N + Ni + 1 := by omega
      rw [e]
      refine Rk (n + N + Ni) sp k tC tK (by omega) hk1 (by omega) h2 h3 (fun hs => ?_) (fun i' hi' hs => ?_)
      · rw [hc] at hs; exact nomatch hs
      · rw [hc] at hs
        cases hs
        refine ⟨by omega, hV (n + N) (sp + 1) _ _ (by omega) pk_us pk_us (fun hne => hH ⟨k, by omega, by omega, by rw [hc]; exact hne⟩) (fun hz tC' tK' ag => ?_)⟩
        rw [pk_m1]
        have g1 : tC' sp = nI d := (ag sp (by omega)).1.trans ((pk_un (by omega)).trans h2)
        have g2 : tK' sp = nI (k + 1) := (ag sp (by omega)).2.trans ((pk_un (by omega)).trans pk_us)
        refine hN n sp tC' tK' h1 g1 g2 (fun z => ?_) (fun hz' tC2 tK2 ag2 => ?_)
        · obtain ⟨l, a, b, q⟩ := z
          exact hH ⟨l, by omega, b, q⟩
        · refine hZ (fun l a b => ?_) tC2 tK2 (fun j hj => ⟨?_, ?_⟩)
          · by_cases e : l = k
            · rw [e, hc]; exact hz
            · exact hz' l (by omega) b
          · exact (ag2 j hj).1.trans ((ag j (by omega)).1.trans (pk_un (by omega)))
          · exact (ag2 j hj).2.trans ((ag j (by omega)).2.trans ((pk_un (by omega)).trans (pk_un (by omega))))
theorem yl_all {W : Nat → Int32 → (Nat → Int32) → (Nat → Int32) → Prop} {M ow : Nat → Int64} {H : Prop} {nx : Nat → Nat → Int32}
    (hM : ∀ d, d < 8 → (M d = 0 ↔ ow d = 0 ∧ ∀ l, 1 ≤ l → l ≤ 5 → fr_cv M (fr_ch (nx d l) d) = 0))
    (R0 : ∀ (d n sp : Nat) (tC tK : Nat → Int32), d < 8 → sp < 8 → tC sp = nI d → tK sp = nI 0 → (¬ ow d = 0 → H) → (ow d = 0 → W n (nI sp) tC (upd tK sp (nI 1))) → W (n + 1) (nI sp) tC tK)
    (Rk : ∀ (d n sp k : Nat) (tC tK : Nat → Int32), d < 8 → sp < 8 → 1 ≤ k → k ≤ 5 → tC sp = nI d → tK sp = nI k →
      (fr_ch (nx d k) d = none → W n (nI sp) tC (upd tK sp (nI (k + 1)))) →
      (∀ i, i < d → fr_ch (nx d k) d = some i → sp + 1 < 8 ∧ W n (nI (sp + 1)) (upd tC (sp + 1) (nI i)) (upd (upd tK sp (nI (k + 1))) (sp + 1) (nI 0))) →
      W (n + 1) (nI sp) tC tK)
    (R6 : ∀ (d n sp : Nat) (tC tK : Nat → Int32), d < 8 → sp < 8 → tC sp = nI d → tK sp = nI 6 → W n (nI sp + (-1)) tC (upd tK sp (nI 7)) → W (n + 1) (nI sp) tC tK) :
    ∀ D, D ≤ 8 → ∀ d, d < D → yl_V W M H d := by
  intro D
  induction D with
  | zero => intro _ d hd; exact absurd hd (by omega)
  | succ D ih =>
    intro hD d hd
    by_cases e : d < D
    · exact ih (by omega) d e
    · have ed : d = D := by omega
      subst ed
      have d8 : d < 8 := by omega
      obtain ⟨N, hN⟩ := yl_S (W := W) (M := M) (H := H) (nx := nx) d8 (fun n sp k tC tK a => Rk d n sp k tC tK d8 a) (fun n sp tC tK a => R6 d n sp tC tK d8 a) (ih (by omega)) 5 1 (by omega) (by omega)
      refine ⟨N + 1, fun n sp tC tK h1 h2 h3 hH hZ => R0 d (n + N) sp tC tK d8 (by omega) h2 h3 (fun z => ?_) (fun z => ?_)⟩
      · exact hH (fun q => z ((hM d d8).mp q).1)
      · refine hN n sp tC (upd tK sp (nI 1)) h1 h2 pk_us (fun q => ?_) (fun hz tC' tK' ag => ?_)
        · obtain ⟨l, a, b, c⟩ := q
          exact hH (fun t => c (((hM d d8).mp t).2 l a b))
        · exact hZ ((hM d d8).mpr ⟨z, hz⟩) tC' tK' (fun j hj => ⟨(ag j hj).1, (ag j hj).2.trans (pk_un (by omega))⟩)
end
section
/-! lookup's printed predicates meet the three step rules -/
section
variable {post : Int32 → SY → Prop} {J : Int32 → (Nat → Int32) → (Nat → Int32) → (Nat → Int32) → (Nat → Int32) → (Nat → Int32) → (Nat → Int32) → (Nat → Int64) → (Nat → Int32) → (Nat → Int32) → Prop} {s : Int32} {P F w O S G : Nat → Int32} {my : Nat → Int64} {tC tK : Nat → Int32}
theorem yl_44 {x3 x x5 cl : Int32} {f : Nat} (hf : f ≤ 12)
    (hit : ∀ i, i < f → O i = x → S i = s → post (nI i) (cl, nI f, P, F, w, O, S, G, my, tC, tK))
    (miss : (∀ i, i < f → ¬ (O i = x ∧ S i = s)) → wY_lookup_85 post J s x3 x x5 cl (nI f) P F w O S G my tC tK) :
    ∀ d j, j + d = f → (∀ i, i < j → ¬ (O i = x ∧ S i = s)) → wY_lookup_44 post J s x3 x x5 cl (nI f) P F w O S G my tC tK (d + 1) (nI j) := by
  intro d
  induction d with
  | zero =>
    intro j hj hm
    have ej : j = f := by omega
    subst ej
    exact br_t (nI_le (Nat.le_refl _) (by omega)) (miss hm)
  | succ d ih =>
    intro j hj hm
    have hn : ¬ nI f ≤ nI j := nI_ge (by omega) (by omega)
    have hi : vp_in (nI j) 12 := vp_in_nI (by omega) (by omega)
    have ec : (nI j).toNatClampNeg = j := nI_clamp (by omega)
    have hk : ¬ (O j = x ∧ S j = s) → wY_lookup_44 post J s x3 x x5 cl (nI f) P F w O S G my tC tK (d + 1) (nI (j + 1)) := fun q => ih (j + 1) (by omega) (fun i hi' => by
      by_cases e : i = j
      · rw [e]; exact q
      · exact hm i (by omega))
    refine br_f hn ⟨hi, br_c (fun hO => ⟨hi, br_c (fun hS => ?_) (fun hS => ?_)⟩) (fun hO => ?_)⟩
    · rw [ec] at hO hS
      exact hit j (by omega) hO hS
    · rw [ec] at hO hS
      intro z ez
      rw [ez, nI_1]
      exact hk (fun q => hS q.2)
    · rw [ec] at hO
      intro z ez
      rw [ez, nI_1]
      exact hk (fun q => hO q.1)
theorem yl_143 {cl f x6 : Int32} {sp d k : Nat} (hsp : sp < 8) (hd : d < 8) (hk : k ≤ 5)
    (hn : fr_ch x6 d = none → J (nI sp) P F w O S G my tC tK)
    (hs : ∀ i, i < d → fr_ch x6 d = some i → sp + 1 < 8 ∧ J (nI (sp + 1)) P F w O S G my (upd tC (sp + 1) (nI i)) (upd tK (sp + 1) (nI 0))) :
    wY_lookup_143 post J s (nI sp) (nI d) (nI k) x6 cl f P F w O S G my tC tK := by
  have h5 : nI k ≤ 5 := nI_le (b := 5) hk (by decide)
  have ec : (nI (sp + 1)).toNatClampNeg = sp + 1 := nI_clamp (by omega)
  refine br_t h5 (fr_br x6 (nI d) d (by omega) rfl hn (fun i hi e hc => nm_r (nI_1 sp) ?_))
  obtain ⟨a, b⟩ := hs i hi hc
  have hi' : vp_in (nI (sp + 1)) 8 := vp_in_nI a (by omega)
  rw [ec, e]
  exact ⟨hi', nm_e ⟨hi', nm_e b⟩⟩
theorem yl_128 {cl f x6 : Int32} {sp d k : Nat} (hsp : sp < 8) (hd : d < 8) (hk : k ≤ 5) (y : Int32) (h5 : k = 5 → P d = y) (h6 : k ≠ 5 → x6 = y)
    (hn : fr_ch y d = none → J (nI sp) P F w O S G my tC tK)
    (hs : ∀ i, i < d → fr_ch y d = some i → sp + 1 < 8 ∧ J (nI (sp + 1)) P F w O S G my (upd tC (sp + 1) (nI i)) (upd tK (sp + 1) (nI 0))) :
    wY_lookup_128 post J s (nI sp) (nI d) (nI k) x6 cl f P F w O S G my tC tK := by
  have ec : (nI d).toNatClampNeg = d := nI_clamp (by omega)
  refine pk_eq k 5 (fun e => ⟨vp_in_nI hd (by omega), ?_⟩) (fun e => ?_)
  · rw [ec, h5 e]
    exact nm_e (yl_143 hsp hd hk hn hs)
  · rw [h6 e]
    exact yl_143 hsp hd hk hn hs
theorem yl_sh : ∀ k, k < 5 → 1 ≤ k → (8 * (nI k - 1)) &&& 31 = (8 * nI (k - 1)) &&& 31 := by decide +kernel
theorem yl_85 {cl f : Int32} {sp d k : Nat} (hsp : sp < 8) (hd : d < 8) (hk : k ≤ 5)
    (hn : fr_ch (fr_nx P w d k) d = none → J (nI sp) P F w O S G my tC (upd tK sp (nI (k + 1))))
    (hs : ∀ i, i < d → fr_ch (fr_nx P w d k) d = some i → sp + 1 < 8 ∧ J (nI (sp + 1)) P F w O S G my (upd tC (sp + 1) (nI i)) (upd (upd tK sp (nI (k + 1))) (sp + 1) (nI 0))) :
    wY_lookup_85 post J s (nI sp) (nI d) (nI k) cl f P F w O S G my tC tK := by
  have ec : (nI sp).toNatClampNeg = sp := nI_clamp (by omega)
  have ed : (nI d).toNatClampNeg = d := nI_clamp (by omega)
  unfold wY_lookup_85
  rw [ec, ed, nI_1]
  refine ⟨vp_in_nI hsp (by omega), nm_e ?_⟩
  refine pk_lt k 1 (fun h => ?_) (fun h => pk_lt 4 k (fun h4 => ?_) (fun h4 => ⟨vp_in_nI hd (by omega), nm_r (e' := fr_b (w d) (k - 1)) ?_ ?_⟩))
  · refine yl_128 hsp hd hk (fr_nx P w d k) (fun e => absurd e (by omega)) (fun e => ?_) hn hs
    unfold fr_nx
    rw [if_pos (by omega)]
  · refine yl_128 hsp hd hk (fr_nx P w d k) (fun e => ?_) (fun e => absurd e (by omega)) hn hs
    unfold fr_nx
    rw [if_neg (by omega), if_neg (by omega)]
  · rw [yl_sh k (by omega) h]
    rfl
  · refine yl_128 hsp hd hk (fr_nx P w d k) (fun e => absurd e (by omega)) (fun e => ?_) hn hs
    unfold fr_nx
    rw [if_neg (by omega), if_pos (by omega)]
theorem yl_85p {cl f : Int32} {sp d : Nat} (hsp : sp < 8) (hd : d < 8)
    (K : J (nI sp + (-1)) P F w O S G my tC (upd tK sp (nI 7))) :
    wY_lookup_85 post J s (nI sp) (nI d) (nI 6) cl f P F w O S G my tC tK := by
  have ec : (nI sp).toNatClampNeg = sp := nI_clamp (by omega)
  unfold wY_lookup_85
  rw [ec, nI_1]
  refine ⟨vp_in_nI hsp (by omega), nm_e ?_⟩
  refine br_f (by decide) (br_t (by decide) ?_)
  refine br_f (by decide) ?_
  exact br_f (by decide) (nm_e K)
theorem yl_16 {cl f : Int32} {n sp d k : Nat} (hsp : sp < 8) (hk : k < 8) (hC : tC sp = nI d) (hK : tK sp = nI k)
    (h0 : k = 0 → ∃ n44, wY_lookup_44 post (wY_lookup_16 post s cl f n) s (nI sp) (nI d) (nI k) cl f P F w O S G my tC tK n44 0)
    (h1 : k ≠ 0 → wY_lookup_85 post (wY_lookup_16 post s cl f n) s (nI sp) (nI d) (nI k) cl f P F w O S G my tC tK) :
    wY_lookup_16 post s cl f (n + 1) (nI sp) P F w O S G my tC tK := by
  have ec : (nI sp).toNatClampNeg = sp := nI_clamp (by omega)
  have hi : vp_in (nI sp) 8 := vp_in_nI hsp (by omega)
  refine br_f (nI_pos (by omega)) ⟨hi, ?_⟩
  rw [ec, hC, hK]
  exact nm_e ⟨hi, nm_e (pk_eq k 0 h0 h1)⟩
end
theorem yl_look {post : Int32 → SY → Prop} {s : Int32} {P F w O S G : Nat → Int32} {my : Nat → Int64} {tC tK : Nat → Int32} {cl : Int32} {f c : Nat} (hf : f ≤ 12) (hc : c < 8) {M : Nat → Int64}
    (hM : ∀ e, e < 8 → M e = fr_st (fr_ow O S s (nI e) f) (fr_b (w e)) (P e) M e)
    (hit : ¬ M c = 0 → ∀ i tC' tK', i < 12 → post (nI i) (cl, nI f, P, F, w, O, S, G, my, tC', tK'))
    (miss : M c = 0 → ∀ tC' tK', post (-1) (cl, nI f, P, F, w, O, S, G, my, tC', tK')) :
    wpY_lookup post (cl, nI f, P, F, w, O, S, G, my, tC, tK) (nI c) s := by
  have hV := yl_all (W := fun n x a b => wY_lookup_16 post s cl (nI f) n x P F w O S G my a b) (M := M) (ow := fun d => fr_ow O S s (nI d) f) (H := ∀ i tC' tK', i < 12 → post (nI i) (cl, nI f, P, F, w, O, S, G, my, tC', tK')) (nx := fr_nx P w)
    (fun d hd => by
      show M d = 0 ↔ fr_ow O S s (nI d) f = 0 ∧ _
      rw [hM d hd, fr_st_z]
      constructor
      · intro z
        refine ⟨z.1, fun l a b => ?_⟩
        by_cases e : l ≤ 4
        · have en : fr_nx P w d l = fr_b (w d) (l - 1) := by
            unfold fr_nx
            rw [if_neg (by omega), if_pos e]
          rw [en]
          exact z.2.1 (l - 1) (by omega)
        · have en : fr_nx P w d l = P d := by
            unfold fr_nx
            rw [if_neg (by omega), if_neg e]
          rw [en]
          exact z.2.2
      · intro z
        refine ⟨z.1, fun i hi => ?_, ?_⟩
        · have en : fr_nx P w d (i + 1) = fr_b (w d) i := by
            unfold fr_nx
            rw [if_neg (by omega), if_pos (by omega)]
            rfl
          have := z.2 (i + 1) (by omega) (by omega)
          rw [en] at this
          exact this
        · have en : fr_nx P w d 5 = P d := rfl
          have := z.2 5 (by omega) (by omega)
          rw [en] at this
          exact this)
    (fun d n sp a b hd hsp h1 h2 hh hz => yl_16 (k := 0) hsp (by omega) h1 h2 (fun _ => ⟨f + 1, yl_44 hf
        (fun i hi hO hS => hh (fr_ow_ne f hf i hi ⟨hO, hS⟩) i a b (by omega))
        (fun hm => yl_85 (k := 0) hsp hd (by omega) (fun _ => hz (fr_ow_0 f hm)) (fun i hi e => by
          have en : fr_ch (fr_nx P w d 0) d = none := fr_ch_n (Or.inl (show (-1 : Int32) < 0 by decide))
          rw [en] at e
          exact nomatch e)) f 0 (by omega) (fun i hi => absurd hi (by omega))⟩) (fun e => absurd rfl e))
    (fun d n sp k a b hd hsp k1 k5 h1 h2 hn hs => yl_16 hsp (by omega) h1 h2 (fun e => absurd e (by omega)) (fun _ => yl_85 hsp hd k5 hn hs))
    (fun d n sp a b hd hsp h1 h2 K => yl_16 (k := 6) hsp (by omega) h1 h2 (fun e => absurd e (by omega)) (fun _ => yl_85p hsp hd K))
    8 (by omega) c hc
  obtain ⟨N, hN⟩ := hV
  refine nm_e (nm_e ⟨1 + N, ?_⟩)
  refine hN 1 0 (upd tC 0 (nI c)) (upd tK 0 0) (by omega) pk_us pk_us hit (fun z a b _ => ?_)
  exact br_t (by decide) (miss z a b)
end
section
/-! addClass: both sides accept on one condition -/
/-- a byte of ifaces that both sides take -/
def fr_good (F : Nat → Int32) (cl : Nat) (i : Int32) : Prop := i = -1 ∨ (¬ i < 0 ∧ i < nI cl ∧ ¬ (F i.toNatClampNeg &&& 512) = 0)
def fr_pre (F : Nat → Int32) (cl : Nat) (x z : Int32) : Prop := (cl = 0 ∧ x = -1 ∧ z = 0) ∨ (cl ≠ 0 ∧ ¬ x < 0 ∧ x < nI cl ∧ (F x.toNatClampNeg &&& 512) = 0 ∧ (z = 0 ∨ x = 0))
def fr_z (y : Int32) : Int32 := if (y &&& 512) = 0 then 0 else 1
def fr_acc (F : Nat → Int32) (cl : Nat) (x y t : Int32) : Prop := cl < 8 ∧ fr_pre F cl x (fr_z y) ∧ ∀ k, k < 4 → fr_good F cl (fr_b t k)
theorem fr_in {i : Int32} {n N : Nat} (h0 : ¬ i < 0) (h : i < nI n) (hn : n ≤ N) (hN : N < 2 ^ 31) : vp_in i N := by
  obtain ⟨j, hj, rfl⟩ := nI_of h0
  rw [nI_ltI hj (by omega)] at h
  exact vp_in_nI (by omega) hN
section
variable {post : Int32 → SX → Prop} {x1 x2 x3 f : Int32} {P F I O S G : Nat → Int32} {sc : Nat → Int64} {cl : Nat}
theorem xa_88 (h8 : cl < 8)
    (hb : ¬ (∀ k, k < 4 → fr_good F cl (fr_b x3 k)) → post (-1) (nI cl, f, P, F, I, O, S, G, sc))
    (hg : (∀ k, k < 4 → fr_good F cl (fr_b x3 k)) → ∃ n, wX_addClass_175 post x3 (nI cl) (nI cl) f n 0 (upd P cl (vp_nar .byte x1.toInt8.toInt32)) (upd F cl (vp_nar .short x2.toInt16.toInt32)) I O S G sc) :
    ∀ d k, k + d = 4 → (∀ i, i < k → fr_good F cl (fr_b x3 i)) → wX_addClass_88 post x1 x2 x3 (nI cl) f P F I O S G sc (d + 1) (nI k) := by
  intro d
  induction d with
  | zero =>
    intro k hk hm
    have ek : k = 4 := by omega
    subst ek
    have ec : (nI cl).toNatClampNeg = cl := nI_clamp (by omega)
    have hi : vp_in (nI cl) 8 := vp_in_nI h8 (by omega)
    refine br_t (nI_le (a := 4) (b := 4) (Nat.le_refl _) (by decide)) ?_
    rw [ec]
    exact ⟨hi, nm_e ⟨hi, nm_e (hg hm)⟩⟩
  | succ d ih =>
    intro k hk hm
    have hn : ¬ (4 : Int32) ≤ nI k := nI_ge (b := 4) (by omega) (by decide)
    have bad : ¬ fr_good F cl (fr_b x3 k) → post (-1) (nI cl, f, P, F, I, O, S, G, sc) := fun q => hb (fun a => q (a k (by omega)))
    have go : fr_good F cl (fr_b x3 k) → ∀ z, z = nI k + 1 → wX_addClass_88 post x1 x2 x3 (nI cl) f P F I O S G sc (d + 1) z := by
      intro q z ez
      rw [ez, nI_1]
      refine ih (k + 1) (by omega) (fun i hi => ?_)
      by_cases e : i = k
      · rw [e]; exact q
      · exact hm i (by omega)
    refine br_f hn (fun y ey => ?_)
    have ey' : y = fr_b x3 k := ey
    rw [ey']
    refine br_c (fun e1 => go (Or.inl e1)) (fun e1 => br_c (fun e2 => bad (fun q => ?_)) (fun e2 => br_c (fun e3 => ⟨fr_in e2 e3 (by omega) (by omega), br_c (fun e4 => bad (fun q => ?_)) (fun e4 => go (Or.inr ⟨e2, e3, e4⟩))⟩) (fun e3 => bad (fun q => ?_))))
    · exact q.elim e1 (fun t => t.1 e2)
    · exact q.elim e1 (fun t => t.2.2 e4)
    · exact q.elim e1 (fun t => e3 t.2.1)
theorem xa_175 (h8 : cl < 8)
    (K : ∀ I' : Nat → Int32, (∀ k, k < 4 → I' (cl * 4 + k) = fr_b x3 k) → (∀ j, (j < cl * 4 ∨ cl * 4 + 4 ≤ j) → I' j = I j) → post (nI cl) (nI (cl + 1), f, P, F, I', O, S, G, sc)) :
    ∀ (d k : Nat) (I1 : Nat → Int32), k + d = 4 → (∀ i, i < k → I1 (cl * 4 + i) = fr_b x3 i) → (∀ j, (j < cl * 4 ∨ cl * 4 + 4 ≤ j) → I1 j = I j) → wX_addClass_175 post x3 (nI cl) (nI cl) f (d + 1) (nI k) P F I1 O S G sc := by
  intro d
  induction d with
  | zero =>
    intro k I1 hk h1 h2
    have ek : k = 4 := by omega
    subst ek
    exact br_t (nI_le (a := 4) (b := 4) (Nat.le_refl _) (by decide)) (nm_r (nI_1 cl) (K I1 h1 h2))
  | succ d ih =>
    intro k I1 hk h1 h2
    have hn : ¬ (4 : Int32) ≤ nI k := nI_ge (b := 4) (by omega) (by decide)
    have ei : nI cl * 4 + nI k = nI (cl * 4 + k) := by
      show nI cl * nI 4 + nI k = _
      rw [pk_mul, nI_add]
    have hi : vp_in (nI (cl * 4 + k)) 32 := vp_in_nI (by omega) (by omega)
    have ec : (nI (cl * 4 + k)).toNatClampNeg = cl * 4 + k := nI_clamp (by omega)
    refine br_f hn ?_
    rw [ei, ec, pk_vb]
    refine ⟨hi, fun a ea z ez => ?_⟩
    rw [ea, ez, nI_1]
    refine ih (k + 1) (upd I1 (cl * 4 + k) (fr_b x3 k)) (by omega) (fun i hi' => ?_) (fun j hj => ?_)
    · by_cases e : i = k
      · rw [e, pk_us]
      · rw [pk_un (by omega)]; exact h1 i (by omega)
    · rw [pk_un (by omega)]; exact h2 j hj
theorem xa_24 {z : Int32} (h8 : cl < 8)
    (hb : ¬ fr_pre F cl x1 z → post (-1) (nI cl, f, P, F, I, O, S, G, sc))
    (hg : fr_pre F cl x1 z → ∃ n, wX_addClass_88 post x1 x2 x3 (nI cl) f P F I O S G sc n 0) :
    wX_addClass_24 post x1 x2 x3 z (nI cl) f P F I O S G sc := by
  unfold wX_addClass_24
  refine pk_eq cl 0 (fun e => br_c (fun a => br_c (fun b => hg (Or.inl ⟨e, a, b⟩)) (fun b => hb ?_)) (fun a => hb ?_))
    (fun e => br_c (fun a => hb ?_) (fun a => br_c (fun b => ⟨fr_in a b (by omega) (by omega), br_c (fun c => br_c (fun q => hg (Or.inr ⟨e, a, b, c, Or.inl q⟩)) (fun q => br_c (fun r => hg (Or.inr ⟨e, a, b, c, Or.inr r⟩)) (fun r => hb ?_))) (fun c => hb ?_)⟩) (fun b => hb ?_)))
  · exact fun q => q.elim (fun t => b t.2.2) (fun t => t.1 e)
  · exact fun q => q.elim (fun t => a t.2.1) (fun t => t.1 e)
  · exact fun q => q.elim (fun t => e t.1) (fun t => t.2.1 a)
  · exact fun q' => q'.elim (fun t => e t.1) (fun t => t.2.2.2.2.elim q r)
  · exact fun q => q.elim (fun t => e t.1) (fun t => c t.2.2.2.1)
  · exact fun q => q.elim (fun t => e t.1) (fun t => b t.2.2.1)
theorem xa_add (h8 : cl ≤ 8)
    (hb : ¬ fr_acc F cl x1 x2 x3 → post (-1) (nI cl, f, P, F, I, O, S, G, sc))
    (hg : fr_acc F cl x1 x2 x3 → ∀ I' : Nat → Int32, (∀ k, k < 4 → I' (cl * 4 + k) = fr_b x3 k) → (∀ j, (j < cl * 4 ∨ cl * 4 + 4 ≤ j) → I' j = I j) → post (nI cl) (nI (cl + 1), f, upd P cl (vp_nar .byte x1.toInt8.toInt32), upd F cl (vp_nar .short x2.toInt16.toInt32), I', O, S, G, sc)) :
    wpX_addClass post (nI cl, f, P, F, I, O, S, G, sc) x1 x2 x3 := by
  have main : ∀ z, z = fr_z x2 → cl < 8 → wX_addClass_24 post x1 x2 x3 z (nI cl) f P F I O S G sc := by
    intro z ez h
    refine xa_24 h (fun q => hb (fun a => q (by rw [ez]; exact a.2.1))) (fun q => ⟨5, ?_⟩)
    refine xa_88 h (fun t => hb (fun a => t a.2.2)) (fun t => ⟨5, ?_⟩) 4 0 (by omega) (fun i hi => absurd hi (by omega))
    exact xa_175 h (hg ⟨h, by rw [← ez]; exact q, t⟩) 4 0 I (by omega) (fun i hi => absurd hi (by omega)) (fun _ _ => rfl)
  refine pk_lt cl 8 (fun h => br_c (fun hz => main 0 (if_pos hz).symm h) (fun hz => main 1 (if_neg hz).symm h)) (fun h => hb (fun a => absurd a.1 (by omega)))
end
section
variable {post : Int32 → SY → Prop} {x1 x2 x3 f : Int32} {P F w O S G : Nat → Int32} {my : Nat → Int64} {tC tK : Nat → Int32} {cl : Nat}
theorem ya_98 (h8 : cl < 8)
    (hb : ¬ (∀ k, k < 4 → fr_good F cl (fr_b x3 k)) → post (-1) (nI cl, f, P, F, w, O, S, G, my, tC, tK))
    (hg : (∀ k, k < 4 → fr_good F cl (fr_b x3 k)) → post (nI cl) (nI (cl + 1), f, upd P cl (vp_nar .byte x1.toInt8.toInt32), upd F cl (vp_nar .short x2.toInt16.toInt32), upd w cl x3, O, S, G, my, tC, tK)) :
    ∀ d k, k + d = 4 → (∀ i, i < k → fr_good F cl (fr_b x3 i)) → wY_addClass_98 post x1 x2 x3 (nI cl) (nI cl) f P F w O S G my tC tK (d + 1) (nI k) := by
  intro d
  induction d with
  | zero =>
    intro k hk hm
    have ek : k = 4 := by omega
    subst ek
    have ec : (nI cl).toNatClampNeg = cl := nI_clamp (by omega)
    have hi : vp_in (nI cl) 8 := vp_in_nI h8 (by omega)
    refine br_t (nI_le (a := 4) (b := 4) (Nat.le_refl _) (by decide)) ?_
    rw [ec]
    exact ⟨hi, nm_e ⟨hi, nm_e ⟨hi, nm_e (nm_r (nI_1 cl) (hg hm))⟩⟩⟩
  | succ d ih =>
    intro k hk hm
    have hn : ¬ (4 : Int32) ≤ nI k := nI_ge (b := 4) (by omega) (by decide)
    have bad : ¬ fr_good F cl (fr_b x3 k) → post (-1) (nI cl, f, P, F, w, O, S, G, my, tC, tK) := fun q => hb (fun a => q (a k (by omega)))
    have go : fr_good F cl (fr_b x3 k) → ∀ z, z = nI k + 1 → wY_addClass_98 post x1 x2 x3 (nI cl) (nI cl) f P F w O S G my tC tK (d + 1) z := by
      intro q z ez
      rw [ez, nI_1]
      refine ih (k + 1) (by omega) (fun i hi => ?_)
      by_cases e : i = k
      · rw [e]; exact q
      · exact hm i (by omega)
    refine br_f hn (fun y ey => ?_)
    have ey' : y = fr_b x3 k := ey
    rw [ey']
    refine br_c (fun e1 => go (Or.inl e1)) (fun e1 => br_c (fun e2 => bad (fun q => ?_)) (fun e2 => br_c (fun e3 => bad (fun q => ?_)) (fun e3 => ⟨fr_in e2 (Int32.not_le.mp e3) (by omega) (by omega), br_c (fun e4 => bad (fun q => ?_)) (fun e4 => go (Or.inr ⟨e2, Int32.not_le.mp e3, e4⟩))⟩)))
    · exact q.elim e1 (fun t => t.1 e2)
    · exact q.elim e1 (fun t => Int32.not_le.mpr t.2.1 e3)
    · exact q.elim e1 (fun t => t.2.2 e4)
theorem ya_84 {z : Int32}
    (hb : ¬ (z = 0 ∨ x1 = 0) → post (-1) (nI cl, f, P, F, w, O, S, G, my, tC, tK))
    (hg : (z = 0 ∨ x1 = 0) → ∃ n, wY_addClass_98 post x1 x2 x3 (nI cl) (nI cl) f P F w O S G my tC tK n 0) :
    wY_addClass_84 post x1 x2 x3 (nI cl) z (nI cl) f P F w O S G my tC tK :=
  br_c (fun a => hg (Or.inl a)) (fun a => br_c (fun b => hg (Or.inr b)) (fun b => hb (fun q => q.elim a b)))
theorem ya_19 {z : Int32} (h8 : cl < 8)
    (hb : ¬ fr_pre F cl x1 z → post (-1) (nI cl, f, P, F, w, O, S, G, my, tC, tK))
    (hg : fr_pre F cl x1 z → ∃ n, wY_addClass_98 post x1 x2 x3 (nI cl) (nI cl) f P F w O S G my tC tK n 0) :
    wY_addClass_19 post x1 x2 x3 (nI cl) z (nI cl) f P F w O S G my tC tK := by
  have h : nI cl < 8 := nI_lt (b := 8) h8 (by decide)
  unfold wY_addClass_19
  refine br_t h (pk_eq cl 0 (fun e => br_c (fun a => br_c (fun b => ?_) (fun b => hb ?_)) (fun a => hb ?_)) (fun e => ?_))
  · have h0 : nI cl ≤ 0 := nI_le (b := 0) (by omega) (by decide)
    refine br_t h0 (br_t h0 (ya_84 (fun q => absurd (Or.inl b) q) (fun _ => hg (Or.inl ⟨e, a, b⟩))))
  · exact fun q => q.elim (fun t => b t.2.2) (fun t => t.1 e)
  · exact fun q => q.elim (fun t => a t.2.1) (fun t => t.1 e)
  · have h0 : ¬ nI cl ≤ 0 := nI_ge (a := 0) (by omega) (by omega)
    refine br_f h0 (br_c (fun a => hb ?_) (fun a => br_c (fun b => br_f h0 ⟨fr_in a b (by omega) (by omega), br_c (fun c => ya_84 (fun q => hb ?_) (fun q => hg (Or.inr ⟨e, a, b, c, q⟩))) (fun c => hb ?_)⟩) (fun b => hb ?_)))
    · exact fun q => q.elim (fun t => e t.1) (fun t => t.2.1 a)
    · exact fun q' => q'.elim (fun t => e t.1) (fun t => q t.2.2.2.2)
    · exact fun q => q.elim (fun t => e t.1) (fun t => c t.2.2.2.1)
    · exact fun q => q.elim (fun t => e t.1) (fun t => b t.2.2.1)
theorem ya_add (h8 : cl ≤ 8)
    (hb : ¬ fr_acc F cl x1 x2 x3 → post (-1) (nI cl, f, P, F, w, O, S, G, my, tC, tK))
    (hg : fr_acc F cl x1 x2 x3 → post (nI cl) (nI (cl + 1), f, upd P cl (vp_nar .byte x1.toInt8.toInt32), upd F cl (vp_nar .short x2.toInt16.toInt32), upd w cl x3, O, S, G, my, tC, tK)) :
    wpY_addClass post (nI cl, f, P, F, w, O, S, G, my, tC, tK) x1 x2 x3 := by
  have main : ∀ z, z = fr_z x2 → wY_addClass_19 post x1 x2 x3 (nI cl) z (nI cl) f P F w O S G my tC tK := by
    intro z ez
    by_cases h : cl < 8
    · refine ya_19 h (fun q => hb (fun a => q (by rw [ez]; exact a.2.1))) (fun q => ⟨5, ?_⟩)
      exact ya_98 h (fun t => hb (fun a => t a.2.2)) (fun t => hg ⟨h, by rw [← ez]; exact q, t⟩) 4 0 (by omega) (fun i hi => absurd hi (by omega))
    · have hn : ¬ nI cl < 8 := nI_nlt (b := 8) (by omega) (by omega)
      exact br_f hn (hb (fun a => h a.1))
  exact br_c (fun hz => main 0 (if_pos hz).symm) (fun hz => main 1 (if_neg hz).symm)
end
end
section
/-! addField -/
def fr_fac (F : Nat → Int32) (cl f : Nat) (x y : Int32) : Prop := f < 12 ∧ ¬ x ≤ 0 ∧ x < nI cl ∧ ((F x.toNatClampNeg &&& 512) = 0 ∨ (y &&& 25) = 25)
def fr_dup (O S : Nat → Int32) (f : Nat) (x s : Int32) : Prop := ∃ i, i < f ∧ O i = x ∧ S i = s
theorem fr_le0 (x : Int32) : x < 1 ↔ x ≤ 0 := by
  rw [Int32.lt_iff_toInt_lt, Int32.le_iff_toInt_le, show (1 : Int32).toInt = 1 from by decide, show (0 : Int32).toInt = 0 from by decide]
  omega
theorem fr_npos {x : Int32} (h : ¬ x ≤ 0) : ¬ x < 0 := by
  rw [Int32.le_iff_toInt_le] at h
  rw [Int32.lt_iff_toInt_lt]
  omega
section
variable {post : Int32 → SX → Prop} {x1 x2 x3 s : Int32} {P F I O S G : Nat → Int32} {sc : Nat → Int64} {cl f : Nat}
theorem xf_56 {c : Int32} (h12 : f < 12)
    (hb : fr_dup O S f x1 s → post (-1) (c, nI f, P, F, I, O, S, G, sc))
    (hg : ¬ fr_dup O S f x1 s → post (nI f) (c, nI (f + 1), P, F, I, upd O f (vp_nar .byte x1.toInt8.toInt32), upd S f (vp_nar .char s), upd G f (vp_nar .short x3.toInt16.toInt32), sc)) :
    ∀ d j, j + d = f → (∀ i, i < j → ¬ (O i = x1 ∧ S i = s)) → wX_addField_56 post x1 x3 s c (nI f) P F I O S G sc (d + 1) (nI j) := by
  intro d
  induction d with
  | zero =>
    intro j hj hm
    have ej : j = f := by omega
    subst ej
    have ec : (nI j).toNatClampNeg = j := nI_clamp (by omega)
    have hi : vp_in (nI j) 12 := vp_in_nI h12 (by omega)
    refine br_t (nI_le (Nat.le_refl _) (by omega)) ?_
    rw [ec]
    exact ⟨hi, nm_e ⟨hi, nm_e ⟨hi, nm_e (nm_r (nI_1 j) (hg (fun q => q.elim (fun i h => hm i h.1 h.2))))⟩⟩⟩
  | succ d ih =>
    intro j hj hm
    have hn : ¬ nI f ≤ nI j := nI_ge (by omega) (by omega)
    have hi : vp_in (nI j) 12 := vp_in_nI (by omega) (by omega)
    have ec : (nI j).toNatClampNeg = j := nI_clamp (by omega)
    have go : ¬ (O j = x1 ∧ S j = s) → ∀ z, z = nI j + 1 → wX_addField_56 post x1 x3 s c (nI f) P F I O S G sc (d + 1) z := by
      intro q z ez
      rw [ez, nI_1]
      refine ih (j + 1) (by omega) (fun i hi => ?_)
      by_cases e : i = j
      · rw [e]; exact q
      · exact hm i (by omega)
    refine br_f hn ⟨hi, br_c (fun hO => ⟨hi, br_c (fun hS => ?_) (fun hS => ?_)⟩) (fun hO => ?_)⟩
    · rw [ec] at hO hS
      exact hb ⟨j, by omega, hO, hS⟩
    · rw [ec] at hO hS
      exact go (fun q => hS q.2)
    · rw [ec] at hO
      exact go (fun q => hO q.1)
theorem xf_add (h8 : cl ≤ 8) (hf : f ≤ 12)
    (hb : ¬ (fr_fac F cl f x1 x3 ∧ ¬ fr_dup O S f x1 (x2.toUInt32 % 65536).toInt32) → post (-1) (nI cl, nI f, P, F, I, O, S, G, sc))
    (hg : fr_fac F cl f x1 x3 → ¬ fr_dup O S f x1 (x2.toUInt32 % 65536).toInt32 → post (nI f) (nI cl, nI (f + 1), P, F, I, upd O f (vp_nar .byte x1.toInt8.toInt32), upd S f (vp_nar .char (x2.toUInt32 % 65536).toInt32), upd G f (vp_nar .short x3.toInt16.toInt32), sc)) :
    wpX_addField post (nI cl, nI f, P, F, I, O, S, G, sc) x1 x2 x3 := by
  have main : fr_fac F cl f x1 x3 → ∃ n, wX_addField_56 post x1 x3 (x2.toUInt32 % 65536).toInt32 (nI cl) (nI f) P F I O S G sc n 0 := fun a =>
    ⟨f + 1, xf_56 a.1 (fun q => hb (fun t => t.2 q)) (hg a) f 0 (by omega) (fun i hi => absurd hi (by omega))⟩
  refine pk_lt f 12 (fun h => br_c (fun a => hb (fun t => t.1.2.1 a)) (fun a => br_c (fun b => ⟨fr_in (fr_npos a) b h8 (by omega), br_c (fun c => nm_e (main ⟨h, a, b, Or.inl c⟩)) (fun c => br_c (fun e => nm_e (main ⟨h, a, b, Or.inr e⟩)) (fun e => hb (fun t => t.1.2.2.2.elim c e)))⟩) (fun b => hb (fun t => b t.1.2.2.1)))) (fun h => hb (fun t => absurd t.1.1 (by omega)))
end
section
variable {post : Int32 → SY → Prop} {x1 x2 x3 : Int32} {P F w O S G : Nat → Int32} {my : Nat → Int64} {tC tK : Nat → Int32} {cl f : Nat}
theorem yf_53 {c : Int32} (h12 : f < 12)
    (hb : fr_dup O S f x1 (x2.toUInt32 % 65536).toInt32 → post (-1) (c, nI f, P, F, w, O, S, G, my, tC, tK))
    (hg : ¬ fr_dup O S f x1 (x2.toUInt32 % 65536).toInt32 → post (nI f) (c, nI (f + 1), P, F, w, upd O f (vp_nar .byte x1.toInt8.toInt32), upd S f (vp_nar .char (x2.toUInt32 % 65536).toInt32), upd G f (vp_nar .short x3.toInt16.toInt32), my, tC, tK)) :
    ∀ d j, j + d = f → (∀ i, i < j → ¬ (O i = x1 ∧ S i = (x2.toUInt32 % 65536).toInt32)) → wY_addField_53 post x1 x2 x3 c (nI f) P F w O S G my tC tK (d + 1) (nI j) := by
  intro d
  induction d with
  | zero =>
    intro j hj hm
    have ej : j = f := by omega
    subst ej
    have ec : (nI j).toNatClampNeg = j := nI_clamp (by omega)
    have hi : vp_in (nI j) 12 := vp_in_nI h12 (by omega)
    refine br_t (nI_le (Nat.le_refl _) (by omega)) ?_
    rw [ec]
    exact ⟨hi, nm_e ⟨hi, nm_e ⟨hi, nm_e (nm_r (nI_1 j) (hg (fun q => q.elim (fun i h => hm i h.1 h.2))))⟩⟩⟩
  | succ d ih =>
    intro j hj hm
    have hn : ¬ nI f ≤ nI j := nI_ge (by omega) (by omega)
    have hi : vp_in (nI j) 12 := vp_in_nI (by omega) (by omega)
    have ec : (nI j).toNatClampNeg = j := nI_clamp (by omega)
    have go : ¬ (O j = x1 ∧ S j = (x2.toUInt32 % 65536).toInt32) → ∀ z, z = nI j + 1 → wY_addField_53 post x1 x2 x3 c (nI f) P F w O S G my tC tK (d + 1) z := by
      intro q z ez
      rw [ez, nI_1]
      refine ih (j + 1) (by omega) (fun i hi => ?_)
      by_cases e : i = j
      · rw [e]; exact q
      · exact hm i (by omega)
    refine br_f hn ⟨hi, br_c (fun hO => ⟨hi, br_c (fun hS => ?_) (fun hS => ?_)⟩) (fun hO => ?_)⟩
    · rw [ec] at hO hS
      exact hb ⟨j, by omega, hO, hS⟩
    · rw [ec] at hO hS
      exact go (fun q => hS q.2)
    · rw [ec] at hO
      exact go (fun q => hO q.1)
theorem yf_add (h8 : cl ≤ 8) (hf : f ≤ 12)
    (hb : ¬ (fr_fac F cl f x1 x3 ∧ ¬ fr_dup O S f x1 (x2.toUInt32 % 65536).toInt32) → post (-1) (nI cl, nI f, P, F, w, O, S, G, my, tC, tK))
    (hg : fr_fac F cl f x1 x3 → ¬ fr_dup O S f x1 (x2.toUInt32 % 65536).toInt32 → post (nI f) (nI cl, nI (f + 1), P, F, w, upd O f (vp_nar .byte x1.toInt8.toInt32), upd S f (vp_nar .char (x2.toUInt32 % 65536).toInt32), upd G f (vp_nar .short x3.toInt16.toInt32), my, tC, tK)) :
    wpY_addField post (nI cl, nI f, P, F, w, O, S, G, my, tC, tK) x1 x2 x3 := by
  have main : fr_fac F cl f x1 x3 → ∃ n, wY_addField_53 post x1 x2 x3 (nI cl) (nI f) P F w O S G my tC tK n 0 := fun a =>
    ⟨f + 1, yf_53 a.1 (fun q => hb (fun t => t.2 q)) (hg a) f 0 (by omega) (fun i hi => absurd hi (by omega))⟩
  refine pk_lt f 12 (fun h => br_c (fun a => hb (fun t => t.1.2.1 ((fr_le0 x1).mp a))) (fun a' => ?_)) (fun h => hb (fun t => absurd t.1.1 (by omega)))
  have a : ¬ x1 ≤ 0 := fun q => a' ((fr_le0 x1).mpr q)
  exact br_c (fun b => ⟨fr_in (fr_npos a) b h8 (by omega), br_c (fun c => main ⟨h, a, b, Or.inl c⟩) (fun c => br_c (fun e => main ⟨h, a, b, Or.inr e⟩) (fun e => hb (fun t => t.1.2.2.2.elim c e)))⟩) (fun b => hb (fun t => b t.1.2.2.1))
end
end
section
/-! a field's flags and its word -/
theorem fr_tab : ∀ j, j < 32 → (((nI j &&& 8) = 0 ∧ (nI j &&& 16) = 0 ∧ (nI j &&& 24) = 0) ∨ (¬ (nI j &&& 8) = 0 ∧ (nI j &&& 16) = 0 ∧ (nI j &&& 24) = 8) ∨ ((nI j &&& 8) = 0 ∧ ¬ (nI j &&& 16) = 0 ∧ (nI j &&& 24) = 16) ∨ (¬ (nI j &&& 8) = 0 ∧ ¬ (nI j &&& 16) = 0 ∧ (nI j &&& 24) = 24)) := by decide +kernel
theorem fr_fl (a : Int32) : (((a &&& 65535) &&& 8) = 0 ∧ ((a &&& 65535) &&& 16) = 0 ∧ (a &&& 24) = 0) ∨ (¬ ((a &&& 65535) &&& 8) = 0 ∧ ((a &&& 65535) &&& 16) = 0 ∧ (a &&& 24) = 8) ∨ (((a &&& 65535) &&& 8) = 0 ∧ ¬ ((a &&& 65535) &&& 16) = 0 ∧ (a &&& 24) = 16) ∨ (¬ ((a &&& 65535) &&& 8) = 0 ∧ ¬ ((a &&& 65535) &&& 16) = 0 ∧ (a &&& 24) = 24) := by
  obtain ⟨j, hj, e⟩ := pk_andE a (m := 31) 5 (by decide)
  have e8 : (a &&& 65535) &&& 8 = nI j &&& 8 := by
    rw [← e, Int32.and_assoc, Int32.and_assoc]
    exact congrArg (fun t => a &&& t) (by decide)
  have e16 : (a &&& 65535) &&& 16 = nI j &&& 16 := by
    rw [← e, Int32.and_assoc, Int32.and_assoc]
    exact congrArg (fun t => a &&& t) (by decide)
  have e24 : a &&& 24 = nI j &&& 24 := by
    rw [← e, Int32.and_assoc]
    exact congrArg (fun t => a &&& t) (by decide)
  rw [e8, e16, e24]
  exact fr_tab j hj
theorem fr_g1 {g : Int32} (h : 0 ≤ g) (h2 : g.toInt < 32768) : g = g &&& 65535 := by
  apply Int32.toInt_inj.mp
  rw [Jvm.Kit.i32_mask g 65535 (k := 16) (by decide) (by decide)]
  rw [Int32.le_iff_toInt_le, show (0 : Int32).toInt = 0 from by decide] at h
  omega
theorem fr_g2 {g : Int32} (h : ¬ 0 ≤ g) (h1 : -32768 ≤ g.toInt) : g + 65536 = g &&& 65535 := by
  apply Int32.toInt_inj.mp
  rw [Int32.le_iff_toInt_le, show (0 : Int32).toInt = 0 from by decide] at h
  have e : (65536 : Int32).toInt = 65536 := by decide
  rw [Jvm.Kit.i32_mask g 65535 (k := 16) (by decide) (by decide), Jvm.Kit.i32_add (by rw [e]; omega) (by rw [e]; omega), e]
  omega
theorem fr_word {o q g : Nat} (ho : o < 8) (hq : q < 65536) (hg : g < 65536) :
    ((((nI o).toInt64) <<< ((32 : Int32).toInt64 &&& 63)) ||| (((nI q).toInt64) <<< ((16 : Int32).toInt64 &&& 63))) ||| ((nI g).toInt64) = ((((nI o).toInt64) * 4294967296) + (((nI q).toInt64) * 65536)) + (nI g).toInt64 := by
  rw [nI_l (show o < 2 ^ 31 by omega), nI_l (show q < 2 ^ 31 by omega), nI_l (show g < 2 ^ 31 by omega)]
  have e1 : lN o <<< ((32 : Int32).toInt64 &&& 63) = lN (o * 4294967296) := wb_shl o (k := 32) (by decide)
  have e2 : lN q <<< ((16 : Int32).toInt64 &&& 63) = lN (q * 65536) := wb_shl q (k := 16) (by decide)
  have e3 : lN o * 4294967296 = lN (o * 4294967296) := lN_mul o 4294967296
  have e4 : lN q * 65536 = lN (q * 65536) := lN_mul q 65536
  have e5 : lN (o * 4294967296) ||| lN (q * 65536) = lN (o * 4294967296 + q * 65536) := g_or (k := 32) (by decide) (by omega) (by omega)
  have e6 : o * 4294967296 + q * 65536 = (o * 65536 + q) * 65536 := by omega
  have e7 : lN ((o * 65536 + q) * 65536) ||| lN g = lN ((o * 65536 + q) * 65536 + g) := g_or (k := 16) (by decide) hg (by omega)
  rw [e1, e2, e3, e4, e5, lN_add, lN_add, e6, e7]
end
section
/-! the constructors -/
def fr_fill (i : Nat) : Nat → Int32 := fun j => if j < i then -1 else 0
theorem fr_fill_0 : (fun _ => 0 : Nat → Int32) = fr_fill 0 := by
  funext j
  exact (if_neg (by omega)).symm
theorem fr_fill_u (i : Nat) : upd (fr_fill i) i (-1) = fr_fill (i + 1) := by
  funext j
  by_cases e : j = i
  · rw [e, pk_us]
    exact (if_pos (by omega)).symm
  · rw [pk_un e]
    unfold fr_fill
    by_cases h : j < i
    · rw [if_pos h, if_pos (by omega)]
    · rw [if_neg h, if_neg (by omega)]
theorem fr_nm1 : vp_nar .byte (-1) = -1 := by rw [vp_nar_byte]; decide
theorem xi_83 {post : SX → Prop} {c f : Int32} {P F O S G : Nat → Int32} {sc : Nat → Int64} (K : post (c, f, P, F, fr_fill 32, O, S, G, sc)) :
    ∀ d i, i + d = 32 → wX_init_83 post c f (d + 1) (nI i) P F (fr_fill i) O S G sc := by
  intro d
  induction d with
  | zero =>
    intro i hi
    have ei : i = 32 := by omega
    subst ei
    exact br_t (nI_le (a := 32) (b := 32) (Nat.le_refl _) (by decide)) K
  | succ d ih =>
    intro i hi
    have hn : ¬ (32 : Int32) ≤ nI i := nI_ge (b := 32) (by omega) (by decide)
    have ec : (nI i).toNatClampNeg = i := nI_clamp (by omega)
    refine br_f hn ?_
    rw [ec, fr_nm1, fr_fill_u]
    exact ⟨vp_in_nI (by omega) (by omega), nm_e (nm_r (nI_1 i) (ih (i + 1) (by omega)))⟩
theorem xi_62 {post : SX → Prop} {c f : Int32} {F O S G : Nat → Int32} {sc : Nat → Int64} (K : post (c, f, fr_fill 8, F, fr_fill 32, O, S, G, sc)) :
    ∀ d i, i + d = 8 → wX_init_62 post c f (d + 1) (nI i) (fr_fill i) F (fr_fill 0) O S G sc := by
  intro d
  induction d with
  | zero =>
    intro i hi
    have ei : i = 8 := by omega
    subst ei
    exact br_t (nI_le (a := 8) (b := 8) (Nat.le_refl _) (by decide)) ⟨33, xi_83 K 32 0 (by omega)⟩
  | succ d ih =>
    intro i hi
    have hn : ¬ (8 : Int32) ≤ nI i := nI_ge (b := 8) (by omega) (by decide)
    have ec : (nI i).toNatClampNeg = i := nI_clamp (by omega)
    refine br_f hn ?_
    rw [ec, fr_nm1, fr_fill_u]
    exact ⟨vp_in_nI (by omega) (by omega), nm_e (nm_r (nI_1 i) (ih (i + 1) (by omega)))⟩
theorem yi_78 {post : SY → Prop} {c f : Int32} {F O S G : Nat → Int32} {my : Nat → Int64} {tC tK : Nat → Int32} (K : post (c, f, fr_fill 8, F, fr_fill 8, O, S, G, my, tC, tK)) :
    ∀ d i, i + d = 8 → wY_init_78 post c f (d + 1) (nI i) (fr_fill i) F (fr_fill i) O S G my tC tK := by
  intro d
  induction d with
  | zero =>
    intro i hi
    have ei : i = 8 := by omega
    subst ei
    exact br_t (nI_le (a := 8) (b := 8) (Nat.le_refl _) (by decide)) K
  | succ d ih =>
    intro i hi
    have hn : ¬ (8 : Int32) ≤ nI i := nI_ge (b := 8) (by omega) (by decide)
    have ec : (nI i).toNatClampNeg = i := nI_clamp (by omega)
    have hi' : vp_in (nI i) 8 := vp_in_nI (by omega) (by omega)
    refine br_f hn ?_
    rw [ec, fr_nm1, fr_fill_u]
    exact ⟨hi', nm_e ⟨hi', nm_e (nm_r (nI_1 i) (ih (i + 1) (by omega)))⟩⟩
theorem fr_bm1 : ∀ k, k < 4 → fr_b (-1) k = -1 := by decide +kernel
end
section
/-! useVerdict: printed by gen_uv.py -/
def fr_hk (a b c d : Int32) : Int32 := if a = b ∧ c = d then 0 else 3
theorem hk_1 {a b c d : Int32} (h : a = b) (k : c = d) : fr_hk a b c d = 0 := if_pos ⟨h, k⟩
theorem hk_2 {a b c d : Int32} (k : ¬ c = d) : fr_hk a b c d = 3 := if_neg (fun q => k q.2)
theorem hk_3 {a b c d : Int32} (h : ¬ a = b) : fr_hk a b c d = 3 := if_neg (fun q => h q.1)
section
variable {post : Int32 → Prop} {cl f v1 v3 v4 : Int32} {P F A w O S G : Nat → Int32} {sc my : Nat → Int64} {tC tK : Nat → Int32}
theorem xu_00_178 {g : Int32} (hin : vp_in v1 12) (a16 : (g &&& 16) = 0) (hp : post 2) : wX_useVerdict_68 post v1 178 v3 v4 g 0 cl f P F A O S G sc :=
  br_t a16 (br_t rfl (br_t rfl hp))
theorem yu_00_178 (hin : vp_in v1 12) (a24 : (G v1.toNatClampNeg &&& 24) = 0) (hp : post 2) : wY_useVerdict_54 post v1 178 v3 v4 1 cl f P F w O S G my tC tK :=
  br_t (by decide) ⟨hin, br_c (fun hh => ⟨hin, nm_r a24 (br_t rfl (br_f (by decide) hp))⟩) (fun hh => ⟨hin, nm_r a24 (br_t rfl (br_f (by decide) hp))⟩)⟩
theorem xu_00_179 {g : Int32} (hin : vp_in v1 12) (a16 : (g &&& 16) = 0) (hp : post 2) : wX_useVerdict_68 post v1 179 v3 v4 g 0 cl f P F A O S G sc :=
  br_t a16 (br_f (by decide) (br_t rfl (br_t rfl hp)))
theorem yu_00_179 (hin : vp_in v1 12) (a24 : (G v1.toNatClampNeg &&& 24) = 0) (hp : post 2) : wY_useVerdict_54 post v1 179 v3 v4 1 cl f P F w O S G my tC tK :=
  br_f (by decide) ⟨hin, br_c (fun hh => ⟨hin, nm_r a24 (br_t rfl (br_f (by decide) hp))⟩) (fun hh => ⟨hin, nm_r a24 (br_t rfl (br_f (by decide) hp))⟩)⟩
theorem xu_00_180 {g : Int32} (hin : vp_in v1 12) (a16 : (g &&& 16) = 0) (hp : post 0) : wX_useVerdict_68 post v1 180 v3 v4 g 0 cl f P F A O S G sc :=
  br_t a16 (br_f (by decide) (br_f (by decide) (br_t rfl (br_f (by decide) (br_f (by decide) hp)))))
theorem yu_00_180 (hin : vp_in v1 12) (a24 : (G v1.toNatClampNeg &&& 24) = 0) (hp : post 0) : wY_useVerdict_54 post v1 180 v3 v4 0 cl f P F w O S G my tC tK :=
  br_t (by decide) ⟨hin, br_c (fun hh => ⟨hin, nm_r a24 (br_t rfl (br_t rfl hp))⟩) (fun hh => ⟨hin, nm_r a24 (br_t rfl (br_t rfl hp))⟩)⟩
theorem xu_00_181 {g : Int32} (hin : vp_in v1 12) (a16 : (g &&& 16) = 0) (hp : post 0) : wX_useVerdict_68 post v1 181 v3 v4 g 0 cl f P F A O S G sc :=
  br_t a16 (br_f (by decide) (br_f (by decide) (br_t rfl (br_t rfl (br_t rfl (br_f (by decide) hp))))))
theorem yu_00_181 (hin : vp_in v1 12) (a24 : (G v1.toNatClampNeg &&& 24) = 0) (hp : post 0) : wY_useVerdict_54 post v1 181 v3 v4 0 cl f P F w O S G my tC tK :=
  br_f (by decide) ⟨hin, br_c (fun hh => ⟨hin, nm_r a24 (br_t rfl (br_t rfl hp))⟩) (fun hh => ⟨hin, nm_r a24 (br_t rfl (br_t rfl hp))⟩)⟩
theorem xu_01_178 {g : Int32} (hin : vp_in v1 12) (a16 : ¬ (g &&& 16) = 0) (hp : post 2) : wX_useVerdict_68 post v1 178 v3 v4 g 0 cl f P F A O S G sc :=
  br_f a16 (br_t rfl (br_t rfl hp))
theorem yu_01_178 (hin : vp_in v1 12) (a24 : (G v1.toNatClampNeg &&& 24) = 16) (hp : post 2) : wY_useVerdict_54 post v1 178 v3 v4 1 cl f P F w O S G my tC tK :=
  br_t (by decide) ⟨hin, br_c (fun hh => ⟨hin, nm_r a24 (br_f (by decide) (br_f (by decide) (br_t rfl (br_f (by decide) hp))))⟩) (fun hh => ⟨hin, nm_r a24 (br_f (by decide) (br_f (by decide) (br_t rfl (br_f (by decide) hp))))⟩)⟩
theorem xu_01_179 {g : Int32} (hin : vp_in v1 12) (a16 : ¬ (g &&& 16) = 0) (hp : post 2) : wX_useVerdict_68 post v1 179 v3 v4 g 0 cl f P F A O S G sc :=
  br_f a16 (br_f (by decide) (br_t rfl (br_t rfl hp)))
theorem yu_01_179 (hin : vp_in v1 12) (a24 : (G v1.toNatClampNeg &&& 24) = 16) (hp : post 2) : wY_useVerdict_54 post v1 179 v3 v4 1 cl f P F w O S G my tC tK :=
  br_f (by decide) ⟨hin, br_c (fun hh => ⟨hin, nm_r a24 (br_f (by decide) (br_f (by decide) (br_t rfl (br_f (by decide) hp))))⟩) (fun hh => ⟨hin, nm_r a24 (br_f (by decide) (br_f (by decide) (br_t rfl (br_f (by decide) hp))))⟩)⟩
theorem xu_01_180 {g : Int32} (hin : vp_in v1 12) (a16 : ¬ (g &&& 16) = 0) (hp : post 0) : wX_useVerdict_68 post v1 180 v3 v4 g 0 cl f P F A O S G sc :=
  br_f a16 (br_f (by decide) (br_f (by decide) (br_t rfl (br_f (by decide) (br_f (by decide) hp)))))
theorem yu_01_180 (hin : vp_in v1 12) (a24 : (G v1.toNatClampNeg &&& 24) = 16) (hp : post 0) : wY_useVerdict_54 post v1 180 v3 v4 0 cl f P F w O S G my tC tK :=
  br_t (by decide) ⟨hin, br_c (fun hh => ⟨hin, nm_r a24 (br_f (by decide) (br_f (by decide) (br_t rfl (br_t rfl (br_t rfl hp)))))⟩) (fun hh => ⟨hin, nm_r a24 (br_f (by decide) (br_f (by decide) (br_t rfl (br_t rfl (br_t rfl hp)))))⟩)⟩
theorem xu_01_181 {g : Int32} (hin : vp_in v1 12) (a16 : ¬ (g &&& 16) = 0) (hp : post (fr_hk (O v1.toNatClampNeg) v3 v4 1)) : wX_useVerdict_68 post v1 181 v3 v4 g 0 cl f P F A O S G sc :=
  br_f a16 (br_f (by decide) (br_f (by decide) (br_t rfl (br_t rfl (br_f (by decide) ⟨hin, br_c (fun hh => br_c (fun kk => br_f (by decide) (Eq.mp (congrArg post (hk_1 hh kk)) hp)) (fun kk => Eq.mp (congrArg post (hk_2 kk)) hp)) (fun hh => Eq.mp (congrArg post (hk_3 hh)) hp)⟩)))))
theorem yu_01_181 (hin : vp_in v1 12) (a24 : (G v1.toNatClampNeg &&& 24) = 16) (hp : post (fr_hk (O v1.toNatClampNeg) v3 v4 1)) : wY_useVerdict_54 post v1 181 v3 v4 0 cl f P F w O S G my tC tK :=
  br_f (by decide) ⟨hin, br_c (fun hh => ⟨hin, nm_r a24 (br_f (by decide) (br_f (by decide) (br_t rfl (br_t rfl (br_f (by decide) (br_f (by decide) (br_c (fun kk => Eq.mp (congrArg post (hk_1 hh kk)) hp) (fun kk => Eq.mp (congrArg post (hk_2 kk)) hp))))))))⟩) (fun hh => ⟨hin, nm_r a24 (br_f (by decide) (br_f (by decide) (br_t rfl (br_t rfl (br_f (by decide) (br_t rfl (Eq.mp (congrArg post (hk_3 hh)) hp)))))))⟩)⟩
theorem xu_10_178 {g : Int32} (hin : vp_in v1 12) (a16 : (g &&& 16) = 0) (hp : post 0) : wX_useVerdict_68 post v1 178 v3 v4 g 1 cl f P F A O S G sc :=
  br_t a16 (br_t rfl (br_f (by decide) (br_f (by decide) (br_f (by decide) hp))))
theorem yu_10_178 (hin : vp_in v1 12) (a24 : (G v1.toNatClampNeg &&& 24) = 8) (hp : post 0) : wY_useVerdict_54 post v1 178 v3 v4 1 cl f P F w O S G my tC tK :=
  br_t (by decide) ⟨hin, br_c (fun hh => ⟨hin, nm_r a24 (br_f (by decide) (br_t rfl (br_f (by decide) hp)))⟩) (fun hh => ⟨hin, nm_r a24 (br_f (by decide) (br_t rfl (br_f (by decide) hp)))⟩)⟩
theorem xu_10_179 {g : Int32} (hin : vp_in v1 12) (a16 : (g &&& 16) = 0) (hp : post 0) : wX_useVerdict_68 post v1 179 v3 v4 g 1 cl f P F A O S G sc :=
  br_t a16 (br_f (by decide) (br_t rfl (br_f (by decide) (br_f (by decide) (br_t rfl (br_t rfl hp))))))
theorem yu_10_179 (hin : vp_in v1 12) (a24 : (G v1.toNatClampNeg &&& 24) = 8) (hp : post 0) : wY_useVerdict_54 post v1 179 v3 v4 1 cl f P F w O S G my tC tK :=
  br_f (by decide) ⟨hin, br_c (fun hh => ⟨hin, nm_r a24 (br_f (by decide) (br_t rfl (br_f (by decide) hp)))⟩) (fun hh => ⟨hin, nm_r a24 (br_f (by decide) (br_t rfl (br_f (by decide) hp)))⟩)⟩
theorem xu_10_180 {g : Int32} (hin : vp_in v1 12) (a16 : (g &&& 16) = 0) (hp : post 2) : wX_useVerdict_68 post v1 180 v3 v4 g 1 cl f P F A O S G sc :=
  br_t a16 (br_f (by decide) (br_f (by decide) (br_f (by decide) hp)))
theorem yu_10_180 (hin : vp_in v1 12) (a24 : (G v1.toNatClampNeg &&& 24) = 8) (hp : post 2) : wY_useVerdict_54 post v1 180 v3 v4 0 cl f P F w O S G my tC tK :=
  br_t (by decide) ⟨hin, br_c (fun hh => ⟨hin, nm_r a24 (br_f (by decide) (br_t rfl (br_t rfl hp)))⟩) (fun hh => ⟨hin, nm_r a24 (br_f (by decide) (br_t rfl (br_t rfl hp)))⟩)⟩
theorem xu_10_181 {g : Int32} (hin : vp_in v1 12) (a16 : (g &&& 16) = 0) (hp : post 2) : wX_useVerdict_68 post v1 181 v3 v4 g 1 cl f P F A O S G sc :=
  br_t a16 (br_f (by decide) (br_f (by decide) (br_f (by decide) hp)))
theorem yu_10_181 (hin : vp_in v1 12) (a24 : (G v1.toNatClampNeg &&& 24) = 8) (hp : post 2) : wY_useVerdict_54 post v1 181 v3 v4 0 cl f P F w O S G my tC tK :=
  br_f (by decide) ⟨hin, br_c (fun hh => ⟨hin, nm_r a24 (br_f (by decide) (br_t rfl (br_t rfl hp)))⟩) (fun hh => ⟨hin, nm_r a24 (br_f (by decide) (br_t rfl (br_t rfl hp)))⟩)⟩
theorem xu_11_178 {g : Int32} (hin : vp_in v1 12) (a16 : ¬ (g &&& 16) = 0) (hp : post 0) : wX_useVerdict_68 post v1 178 v3 v4 g 1 cl f P F A O S G sc :=
  br_f a16 (br_t rfl (br_f (by decide) (br_f (by decide) (br_f (by decide) hp))))
theorem yu_11_178 (hin : vp_in v1 12) (a24 : (G v1.toNatClampNeg &&& 24) = 24) (hp : post 0) : wY_useVerdict_54 post v1 178 v3 v4 1 cl f P F w O S G my tC tK :=
  br_t (by decide) ⟨hin, br_c (fun hh => ⟨hin, nm_r a24 (br_f (by decide) (br_f (by decide) (br_f (by decide) (br_f (by decide) (br_t rfl hp)))))⟩) (fun hh => ⟨hin, nm_r a24 (br_f (by decide) (br_f (by decide) (br_f (by decide) (br_f (by decide) (br_t rfl hp)))))⟩)⟩
theorem xu_11_179 {g : Int32} (hin : vp_in v1 12) (a16 : ¬ (g &&& 16) = 0) (hp : post (fr_hk (O v1.toNatClampNeg) v3 v4 2)) : wX_useVerdict_68 post v1 179 v3 v4 g 1 cl f P F A O S G sc :=
  br_f a16 (br_f (by decide) (br_t rfl (br_f (by decide) (br_f (by decide) (br_t rfl (br_f (by decide) ⟨hin, br_c (fun hh => br_c (fun kk => Eq.mp (congrArg post (hk_1 hh kk)) hp) (fun kk => Eq.mp (congrArg post (hk_2 kk)) hp)) (fun hh => Eq.mp (congrArg post (hk_3 hh)) hp)⟩))))))
theorem yu_11_179 (hin : vp_in v1 12) (a24 : (G v1.toNatClampNeg &&& 24) = 24) (hp : post (fr_hk (O v1.toNatClampNeg) v3 v4 2)) : wY_useVerdict_54 post v1 179 v3 v4 1 cl f P F w O S G my tC tK :=
  br_f (by decide) ⟨hin, br_c (fun hh => ⟨hin, nm_r a24 (br_f (by decide) (br_f (by decide) (br_f (by decide) (br_f (by decide) (br_f (by decide) (br_f (by decide) (br_c (fun kk => Eq.mp (congrArg post (hk_1 hh kk)) hp) (fun kk => Eq.mp (congrArg post (hk_2 kk)) hp))))))))⟩) (fun hh => ⟨hin, nm_r a24 (br_f (by decide) (br_f (by decide) (br_f (by decide) (br_f (by decide) (br_f (by decide) (br_t rfl (Eq.mp (congrArg post (hk_3 hh)) hp)))))))⟩)⟩
theorem xu_11_180 {g : Int32} (hin : vp_in v1 12) (a16 : ¬ (g &&& 16) = 0) (hp : post 2) : wX_useVerdict_68 post v1 180 v3 v4 g 1 cl f P F A O S G sc :=
  br_f a16 (br_f (by decide) (br_f (by decide) (br_f (by decide) hp)))
theorem yu_11_180 (hin : vp_in v1 12) (a24 : (G v1.toNatClampNeg &&& 24) = 24) (hp : post 2) : wY_useVerdict_54 post v1 180 v3 v4 0 cl f P F w O S G my tC tK :=
  br_t (by decide) ⟨hin, br_c (fun hh => ⟨hin, nm_r a24 (br_f (by decide) (br_f (by decide) (br_f (by decide) (br_t rfl hp))))⟩) (fun hh => ⟨hin, nm_r a24 (br_f (by decide) (br_f (by decide) (br_f (by decide) (br_t rfl hp))))⟩)⟩
theorem xu_11_181 {g : Int32} (hin : vp_in v1 12) (a16 : ¬ (g &&& 16) = 0) (hp : post 2) : wX_useVerdict_68 post v1 181 v3 v4 g 1 cl f P F A O S G sc :=
  br_f a16 (br_f (by decide) (br_f (by decide) (br_f (by decide) hp)))
theorem yu_11_181 (hin : vp_in v1 12) (a24 : (G v1.toNatClampNeg &&& 24) = 24) (hp : post 2) : wY_useVerdict_54 post v1 181 v3 v4 0 cl f P F w O S G my tC tK :=
  br_f (by decide) ⟨hin, br_c (fun hh => ⟨hin, nm_r a24 (br_f (by decide) (br_f (by decide) (br_f (by decide) (br_t rfl hp))))⟩) (fun hh => ⟨hin, nm_r a24 (br_f (by decide) (br_f (by decide) (br_f (by decide) (br_t rfl hp))))⟩)⟩
end
end
section
/-! what is owed -/
theorem i_vc0 : wpX_init (fun u => wpY_init (fun v => i_Rel 0 u v)) := by
  unfold wpX_init wpY_init
  rw [fr_fill_0]
  refine ⟨9, xi_62 ?_ 8 0 (by omega)⟩
  refine ⟨9, yi_78 ?_ 8 0 (by omega)⟩
  refine ⟨0, 0, _, _, _, _, _, _, _, _, _, _, _, rfl, rfl, by omega, by omega, fun e k he hk => ?_, fun i j hi => absurd hi (by omega), fun i hi => absurd hi (by omega)⟩
  have h1 : fr_fill 32 (e * 4 + k) = -1 := if_pos (by omega)
  have h2 : fr_fill 8 e = -1 := if_pos he
  rw [h1, h2, fr_bm1 k hk]
theorem i_vc_addClass {k : Nat} {u : SX} {v : SY} (I : i_Rel k u v) (hk : k + 5 ≤ 2560) (v1 : Int32) (v2 : Int32) (v3 : Int32) : wpX_addClass (fun r u' => wpY_addClass (fun r' v' => r' = r ∧ i_Rel (k + 5) u' v') v v1 v2 v3) u v1 v2 v3 := by
  have I0 := I
  obtain ⟨cl, f, P, F, A, O, S, G, sc, w, my, tC, tK, rfl, rfl, h8, h12, hA, hu, hr⟩ := I
  refine xa_add h8 (fun q => ya_add h8 (fun _ => ⟨rfl, I0⟩) (fun a => absurd a q)) (fun a A' g1 g2 => ya_add h8 (fun q => absurd a q) (fun _ => ⟨rfl, ?_⟩))
  refine ⟨cl + 1, f, _, _, _, _, _, _, _, _, _, _, _, rfl, rfl, a.1, h12, fun e i he hi => ?_, hu, hr⟩
  by_cases z : e = cl
  · rw [z, pk_us]
    exact g1 i hi
  · rw [pk_un z, g2 (e * 4 + i) (by omega)]
    exact hA e i he hi
theorem fr_own : ∀ o, o < 8 → (nI o).toInt8.toInt32 = nI o := by decide +kernel
theorem i_vc_addField {k : Nat} {u : SX} {v : SY} (I : i_Rel k u v) (hk : k + 5 ≤ 2560) (v1 : Int32) (v2 : Int32) (v3 : Int32) : wpX_addField (fun r u' => wpY_addField (fun r' v' => r' = r ∧ i_Rel (k + 5) u' v') v v1 v2 v3) u v1 v2 v3 := by
  have I0 := I
  obtain ⟨cl, f, P, F, A, O, S, G, sc, w, my, tC, tK, rfl, rfl, h8, h12, hA, hu, hr⟩ := I
  refine xf_add h8 h12 (fun q => yf_add h8 h12 (fun _ => ⟨rfl, I0⟩) (fun a b => absurd ⟨a, b⟩ q)) (fun a b => yf_add h8 h12 (fun q => absurd ⟨a, b⟩ q) (fun _ _ => ⟨rfl, ?_⟩))
  obtain ⟨f12, hp, hc, _⟩ := a
  obtain ⟨o, ho, rfl⟩ := nI_of (fr_npos hp)
  rw [nI_ltI ho (by omega)] at hc
  rw [pk_vb, fr_own o (by omega), pk_vc, pk_vs]
  refine ⟨cl, f + 1, _, _, _, _, _, _, _, _, _, _, _, rfl, rfl, h8, f12, hA, fun i j hi hj eo es => ?_, fun i hi => ?_⟩
  · by_cases zi : i = f
    · by_cases zj : j = f
      · rw [zi, zj]
      · rw [zi, pk_us, pk_un zj] at eo es
        exact absurd ⟨j, by omega, eo.symm, es.symm⟩ b
    · by_cases zj : j = f
      · rw [zj, pk_us, pk_un zi] at eo es
        exact absurd ⟨i, by omega, eo, es⟩ b
      · rw [pk_un zi, pk_un zj] at eo es
        exact hu i j (by omega) (by omega) eo es
  · by_cases zi : i = f
    · rw [zi, pk_us, pk_us, pk_us]
      exact ⟨⟨o, by omega, rfl⟩, ⟨_, Nat.mod_lt _ (by decide), pk_char v2⟩, lg_i2s_range v3⟩
    · rw [pk_un zi, pk_un zi, pk_un zi]
      exact hr i (by omega)
/-- the table that both sides fill, by either side's slots -/
theorem fr_MX {f : Nat} {P A O S w : Nat → Int32} {s : Int32} (hA : ∀ e k, e < 8 → k < 4 → A (e * 4 + k) = fr_b (w e) k) :
    ∃ M : Nat → Int64, (∀ e, e < 8 → M e = fr_st (fr_ow O S s (nI e) f) (fun k => A (e * 4 + k)) (P e) M e) ∧ (∀ e, e < 8 → M e = fr_st (fr_ow O S s (nI e) f) (fr_b (w e)) (P e) M e) := by
  have h : ∀ e, e < 8 → fr_M (fun d => fr_ow O S s (nI d) f) (fun d => fr_b (w d)) P e = fr_st (fr_ow O S s (nI e) f) (fr_b (w e)) (P e) (fr_M (fun d => fr_ow O S s (nI d) f) (fun d => fr_b (w d)) P) e := fun e he => fr_M_e (by omega)
  exact ⟨_, fun e he => (h e he).trans (fr_st_c (by omega) (fun i hi => (hA e i he hi).symm) (fun _ _ => rfl)), h⟩
theorem i_vc_permitted {k : Nat} {u : SX} {v : SY} (I : i_Rel k u v) (hk : k + 5 ≤ 2560) (v1 : Int32) (v2 : Int32) : wpX_permitted (fun r u' => wpY_permitted (fun r' v' => r' = r ∧ i_Rel (k + 5) u' v') v v1 v2) u v1 v2 := by
  have I0 := I
  obtain ⟨cl, f, P, F, A, O, S, G, sc, w, my, tC, tK, rfl, rfl, h8, h12, hA, hu, hr⟩ := I
  by_cases h1 : v1 < 0
  · exact br_t h1 (br_t h1 ⟨rfl, I0⟩)
  by_cases h2 : v1 < nI cl
  · obtain ⟨c, hc, rfl⟩ := nI_of h1
    rw [nI_ltI hc (by omega)] at h2
    obtain ⟨M, hX, hY⟩ := fr_MX (f := f) (P := P) (O := O) (S := S) (s := (v2.toUInt32 % 65536).toInt32) hA
    exact px_perm h2 h8 h12 hX (fun sc' => py_perm h2 h8 h12 hu hY (fun my' => ⟨rfl, cl, f, P, F, A, O, S, G, sc', w, my', tC, tK, rfl, rfl, h8, h12, hA, hu, hr⟩))
  · exact br_f h1 (br_f h2 (br_f h1 (br_f h2 ⟨rfl, I0⟩)))
theorem i_vc_verdict {k : Nat} {u : SX} {v : SY} (I : i_Rel k u v) (hk : k + 5 ≤ 2560) (v1 : Int32) (v2 : Int32) : wpX_verdict (fun r u' => wpY_verdict (fun r' v' => r' = r ∧ i_Rel (k + 5) u' v') v v1 v2) u v1 v2 := by
  have I0 := I
  obtain ⟨cl, f, P, F, A, O, S, G, sc, w, my, tC, tK, rfl, rfl, h8, h12, hA, hu, hr⟩ := I
  by_cases h1 : v1 < 0
  · exact br_t h1 (br_t h1 ⟨rfl, I0⟩)
  by_cases h2 : v1 < nI cl
  · have h2' := h2
    obtain ⟨c, hc, rfl⟩ := nI_of h1
    rw [nI_ltI hc (by omega)] at h2'
    obtain ⟨M, hX, hY⟩ := fr_MX (f := f) (P := P) (O := O) (S := S) (s := (v2.toUInt32 % 65536).toInt32) hA
    have hR : ∀ sc' tC' tK', i_Rel (k + 5) (nI cl, nI f, P, F, A, O, S, G, sc') (nI cl, nI f, P, F, w, O, S, G, my, tC', tK') := fun sc' tC' tK' => ⟨cl, f, P, F, A, O, S, G, sc', w, my, tC', tK', rfl, rfl, h8, h12, hA, hu, hr⟩
    unfold wpX_verdict wpY_verdict
    dsimp only
    refine br_f h1 (br_t h2 (px_perm h2' h8 h12 hX (fun sc' => ?_)))
    dsimp only
    refine br_c (fun z => ?_) (fun z => ?_)
    · refine br_f h1 (br_t h2 (yl_look h12 (by omega) hY (fun q => absurd z q) (fun _ tC' tK' => ?_)))
      dsimp only
      exact br_t (by decide) ⟨rfl, hR sc' tC' tK'⟩
    · refine br_f h1 (br_t h2 (yl_look h12 (by omega) hY (fun _ i tC' tK' hi => ?_) (fun q => absurd q z)))
      dsimp only
      exact br_f (nI_pos (by omega)) ⟨rfl, hR sc' tC' tK'⟩
  · exact br_f h1 (br_f h2 (br_f h1 (br_f h2 ⟨rfl, I0⟩)))
theorem i_vc_useVerdict {k : Nat} {u : SX} {v : SY} (I : i_Rel k u v) (hk : k + 5 ≤ 2560) (v1 : Int32) (v2 : Int32) (v3 : Int32) (v4 : Int32) : wpX_useVerdict (fun r => wpY_useVerdict (fun r' => r' = r ∧ i_Rel (k + 5) u v) v v1 v2 v3 v4) u v1 v2 v3 v4 := by
  have I0 : i_Rel (k + 5) u v := I
  obtain ⟨cl, f, P, F, A, O, S, G, sc, w, my, tC, tK, rfl, rfl, h8, h12, hA, hu, hr⟩ := I
  by_cases h1 : v1 < 0
  · exact br_t h1 (br_t h1 ⟨rfl, I0⟩)
  by_cases h2 : nI f ≤ v1
  · exact br_f h1 (br_f (Int32.not_lt.mpr h2) (br_f h1 (br_t h2 ⟨rfl, I0⟩)))
  have h2' : v1 < nI f := Int32.not_le.mp h2
  by_cases h3 : v3 < 0
  · exact br_f h1 (br_t h2' (br_t h3 (br_f h1 (br_f h2 (br_t h3 ⟨rfl, I0⟩)))))
  by_cases h4 : v3 < nI cl
  · by_cases h5 : v2 < 178
    · exact br_f h1 (br_t h2' (br_f h3 (br_t h4 (br_t h5 (br_f h1 (br_f h2 (br_f h3 (br_t h4 (br_t h5 ⟨rfl, I0⟩)))))))))
    by_cases h6 : v2 ≤ 181
    · have hin : vp_in v1 12 := fr_in h1 h2' h12 (by omega)
      have hop : v2 = 178 ∨ v2 = 179 ∨ v2 = 180 ∨ v2 = 181 := by
        have e1 : (178 : Int32).toInt = 178 := by decide
        have e2 : (179 : Int32).toInt = 179 := by decide
        have e3 : (180 : Int32).toInt = 180 := by decide
        have e4 : (181 : Int32).toInt = 181 := by decide
        rw [Int32.lt_iff_toInt_lt, e1] at h5
        rw [Int32.le_iff_toInt_le, e4] at h6
        rw [← Int32.toInt_inj, ← Int32.toInt_inj, ← Int32.toInt_inj, ← Int32.toInt_inj, e1, e2, e3, e4]
        omega
      rcases fr_fl (G v1.toNatClampNeg) with ⟨a8, a16, a24⟩ | ⟨a8, a16, a24⟩ | ⟨a8, a16, a24⟩ | ⟨a8, a16, a24⟩
      · rcases hop with rfl | rfl | rfl | rfl
        · exact br_f h1 (br_t h2' (br_f h3 (br_t h4 (br_f h5 (br_t h6 ⟨hin, nm_e (br_t a8 (xu_00_178 hin a16 (br_f h1 (br_f h2 (br_f h3 (br_t h4 (br_f h5 (br_t h6 (br_f (by decide) (yu_00_178 hin a24 ⟨rfl, I0⟩))))))))))⟩)))))
        · exact br_f h1 (br_t h2' (br_f h3 (br_t h4 (br_f h5 (br_t h6 ⟨hin, nm_e (br_t a8 (xu_00_179 hin a16 (br_f h1 (br_f h2 (br_f h3 (br_t h4 (br_f h5 (br_t h6 (br_f (by decide) (yu_00_179 hin a24 ⟨rfl, I0⟩))))))))))⟩)))))
        · exact br_f h1 (br_t h2' (br_f h3 (br_t h4 (br_f h5 (br_t h6 ⟨hin, nm_e (br_t a8 (xu_00_180 hin a16 (br_f h1 (br_f h2 (br_f h3 (br_t h4 (br_f h5 (br_t h6 (br_t (by decide) (yu_00_180 hin a24 ⟨rfl, I0⟩))))))))))⟩)))))
        · exact br_f h1 (br_t h2' (br_f h3 (br_t h4 (br_f h5 (br_t h6 ⟨hin, nm_e (br_t a8 (xu_00_181 hin a16 (br_f h1 (br_f h2 (br_f h3 (br_t h4 (br_f h5 (br_t h6 (br_t (by decide) (yu_00_181 hin a24 ⟨rfl, I0⟩))))))))))⟩)))))
      · rcases hop with rfl | rfl | rfl | rfl
        · exact br_f h1 (br_t h2' (br_f h3 (br_t h4 (br_f h5 (br_t h6 ⟨hin, nm_e (br_f a8 (xu_10_178 hin a16 (br_f h1 (br_f h2 (br_f h3 (br_t h4 (br_f h5 (br_t h6 (br_f (by decide) (yu_10_178 hin a24 ⟨rfl, I0⟩))))))))))⟩)))))
        · exact br_f h1 (br_t h2' (br_f h3 (br_t h4 (br_f h5 (br_t h6 ⟨hin, nm_e (br_f a8 (xu_10_179 hin a16 (br_f h1 (br_f h2 (br_f h3 (br_t h4 (br_f h5 (br_t h6 (br_f (by decide) (yu_10_179 hin a24 ⟨rfl, I0⟩))))))))))⟩)))))
        · exact br_f h1 (br_t h2' (br_f h3 (br_t h4 (br_f h5 (br_t h6 ⟨hin, nm_e (br_f a8 (xu_10_180 hin a16 (br_f h1 (br_f h2 (br_f h3 (br_t h4 (br_f h5 (br_t h6 (br_t (by decide) (yu_10_180 hin a24 ⟨rfl, I0⟩))))))))))⟩)))))
        · exact br_f h1 (br_t h2' (br_f h3 (br_t h4 (br_f h5 (br_t h6 ⟨hin, nm_e (br_f a8 (xu_10_181 hin a16 (br_f h1 (br_f h2 (br_f h3 (br_t h4 (br_f h5 (br_t h6 (br_t (by decide) (yu_10_181 hin a24 ⟨rfl, I0⟩))))))))))⟩)))))
      · rcases hop with rfl | rfl | rfl | rfl
        · exact br_f h1 (br_t h2' (br_f h3 (br_t h4 (br_f h5 (br_t h6 ⟨hin, nm_e (br_t a8 (xu_01_178 hin a16 (br_f h1 (br_f h2 (br_f h3 (br_t h4 (br_f h5 (br_t h6 (br_f (by decide) (yu_01_178 hin a24 ⟨rfl, I0⟩))))))))))⟩)))))
        · exact br_f h1 (br_t h2' (br_f h3 (br_t h4 (br_f h5 (br_t h6 ⟨hin, nm_e (br_t a8 (xu_01_179 hin a16 (br_f h1 (br_f h2 (br_f h3 (br_t h4 (br_f h5 (br_t h6 (br_f (by decide) (yu_01_179 hin a24 ⟨rfl, I0⟩))))))))))⟩)))))
        · exact br_f h1 (br_t h2' (br_f h3 (br_t h4 (br_f h5 (br_t h6 ⟨hin, nm_e (br_t a8 (xu_01_180 hin a16 (br_f h1 (br_f h2 (br_f h3 (br_t h4 (br_f h5 (br_t h6 (br_t (by decide) (yu_01_180 hin a24 ⟨rfl, I0⟩))))))))))⟩)))))
        · exact br_f h1 (br_t h2' (br_f h3 (br_t h4 (br_f h5 (br_t h6 ⟨hin, nm_e (br_t a8 (xu_01_181 hin a16 (br_f h1 (br_f h2 (br_f h3 (br_t h4 (br_f h5 (br_t h6 (br_t (by decide) (yu_01_181 hin a24 ⟨rfl, I0⟩))))))))))⟩)))))
      · rcases hop with rfl | rfl | rfl | rfl
        · exact br_f h1 (br_t h2' (br_f h3 (br_t h4 (br_f h5 (br_t h6 ⟨hin, nm_e (br_f a8 (xu_11_178 hin a16 (br_f h1 (br_f h2 (br_f h3 (br_t h4 (br_f h5 (br_t h6 (br_f (by decide) (yu_11_178 hin a24 ⟨rfl, I0⟩))))))))))⟩)))))
        · exact br_f h1 (br_t h2' (br_f h3 (br_t h4 (br_f h5 (br_t h6 ⟨hin, nm_e (br_f a8 (xu_11_179 hin a16 (br_f h1 (br_f h2 (br_f h3 (br_t h4 (br_f h5 (br_t h6 (br_f (by decide) (yu_11_179 hin a24 ⟨rfl, I0⟩))))))))))⟩)))))
        · exact br_f h1 (br_t h2' (br_f h3 (br_t h4 (br_f h5 (br_t h6 ⟨hin, nm_e (br_f a8 (xu_11_180 hin a16 (br_f h1 (br_f h2 (br_f h3 (br_t h4 (br_f h5 (br_t h6 (br_t (by decide) (yu_11_180 hin a24 ⟨rfl, I0⟩))))))))))⟩)))))
        · exact br_f h1 (br_t h2' (br_f h3 (br_t h4 (br_f h5 (br_t h6 ⟨hin, nm_e (br_f a8 (xu_11_181 hin a16 (br_f h1 (br_f h2 (br_f h3 (br_t h4 (br_f h5 (br_t h6 (br_t (by decide) (yu_11_181 hin a24 ⟨rfl, I0⟩))))))))))⟩)))))
    · exact br_f h1 (br_t h2' (br_f h3 (br_t h4 (br_f h5 (br_f h6 (br_f h1 (br_f h2 (br_f h3 (br_t h4 (br_f h5 (br_f h6 ⟨rfl, I0⟩)))))))))))
  · exact br_f h1 (br_t h2' (br_f h3 (br_f h4 (br_f h1 (br_f h2 (br_f h3 (br_f h4 ⟨rfl, I0⟩)))))))
theorem i_vc_fieldWord {k : Nat} {u : SX} {v : SY} (I : i_Rel k u v) (hk : k + 5 ≤ 2560) (v1 : Int32) : wpX_fieldWord (fun r => wpY_fieldWord (fun r' => r' = r ∧ i_Rel (k + 5) u v) v v1) u v1 := by
  have I0 : i_Rel (k + 5) u v := I
  obtain ⟨cl, f, P, F, A, O, S, G, sc, w, my, tC, tK, rfl, rfl, h8, h12, hA, hu, hr⟩ := I
  by_cases h1 : v1 < 0
  · exact br_t h1 (br_t h1 ⟨rfl, I0⟩)
  by_cases h2 : v1 < nI f
  · have hin : vp_in v1 12 := fr_in h1 h2 h12 (by omega)
    have hj : v1.toNatClampNeg < f := by
      obtain ⟨j, hj, rfl⟩ := nI_of h1
      rw [nI_ltI hj (by omega)] at h2
      rw [nI_clamp hj]
      exact h2
    obtain ⟨⟨o, ho, eo⟩, ⟨q, hq, es⟩, g1, g2⟩ := hr _ hj
    obtain ⟨g, hg, eg⟩ := pk_andE (G v1.toNatClampNeg) (m := 65535) 16 (by decide)
    refine br_f h1 (br_t h2 ⟨hin, hin, hin, br_f h1 (br_t h2 ⟨hin, br_c (fun z => ⟨hin, hin, hin, ?_⟩) (fun z => ⟨hin, hin, hin, ?_⟩)⟩)⟩)
    · refine ⟨?_, I0⟩
      rw [fr_g1 z g2, Int32.and_assoc, eo, es, show (65535 : Int32) &&& 65535 = 65535 from by decide, eg]
      exact (fr_word ho hq hg).symm
    · refine ⟨?_, I0⟩
      rw [fr_g2 z g1, eo, es, eg]
      exact (fr_word ho hq hg).symm
  · exact br_f h1 (br_f h2 (br_f h1 (br_f h2 ⟨rfl, I0⟩)))
end
