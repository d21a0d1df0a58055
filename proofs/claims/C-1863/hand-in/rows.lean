section
/-! ===== stores, numbers (pk_ rows: pasted from kit/rows) ===== -/
theorem pk_us {f : Nat → Int32} {k : Nat} {x : Int32} : upd f k x k = x := if_pos rfl
theorem pk_un {f : Nat → Int32} {k j : Nat} {x : Int32} (h : j ≠ k) : upd f k x j = f j := if_neg h
theorem pk_uLs {f : Nat → Int64} {k : Nat} {x : Int64} : vp_updL f k x k = x := if_pos rfl
theorem pk_uLn {f : Nat → Int64} {k j : Nat} {x : Int64} (h : j ≠ k) : vp_updL f k x j = f j := if_neg h
theorem zu_e (f : Nat → Int32) (k : Nat) : upd f k (f k) = f := by
  funext j
  by_cases h : j = k
  · subst h; exact pk_us
  · exact pk_un h
theorem zu_Le (f : Nat → Int64) (k : Nat) : vp_updL f k (f k) = f := by
  funext j
  by_cases h : j = k
  · subst h; exact pk_uLs
  · exact pk_uLn h
theorem pk_mul (a b : Nat) : nI a * nI b = nI (a * b) := (Int32.ofNat_mul a b).symm
theorem zn_ix (r w : Nat) : nI r * 8 + nI w = nI (r * 8 + w) := by
  rw [show (8 : Int32) = nI 8 from rfl, pk_mul, nI_add]
theorem pk_ix (x : Int32) {n : Nat} (hn : n < 2 ^ 31) : x < 0 ∨ nI n ≤ x ∨ ∃ j : Nat, j < n ∧ x = nI j := by
  by_cases h : x < 0
  · exact Or.inl h
  · obtain ⟨j, hj, rfl⟩ := nI_of h
    by_cases h2 : j < n
    · exact Or.inr (Or.inr ⟨j, h2, rfl⟩)
    · exact Or.inr (Or.inl (nI_le (by omega) hj))
theorem zn_inj {a b : Nat} (ha : a < 64) (hb : b < 64) (h : nI a = nI b) : a = b := (nI_eq (by omega) (by omega)).mp h
theorem zn_m1 {a : Nat} (ha : a < 64) : nI a ≠ -1 := by
  intro h
  have h2 := nI_pos (n := a) (by omega)
  rw [h] at h2
  exact h2 (by decide)
theorem zn_ge {a b : Nat} (h : b ≤ a) (ha : a < 64) : nI b ≤ nI a := nI_le h (by omega)
theorem zn_lt {a b : Nat} (h : a < b) (hb : b < 64) : ¬ nI b ≤ nI a := nI_ge h (by omega)
theorem zn_in {a N : Nat} (h : a < N) (hN : N < 64) : vp_in (nI a) N := vp_in_nI h (by omega)
theorem zn_cl {a : Nat} (h : a < 64) : (nI a).toNatClampNeg = a := nI_clamp (by omega)
/-! ===== a long by its bits ===== -/
def zb_t (x : Int64) (i : Nat) : Bool := x.toBitVec.getLsbD i
theorem zb_or (x y : Int64) (i : Nat) : zb_t (x ||| y) i = (zb_t x i || zb_t y i) := by unfold zb_t; rw [Int64.toBitVec_or, BitVec.getLsbD_or]
theorem zb_and (x y : Int64) (i : Nat) : zb_t (x &&& y) i = (zb_t x i && zb_t y i) := by unfold zb_t; rw [Int64.toBitVec_and, BitVec.getLsbD_and]
theorem zb_big {x : Int64} {i : Nat} (h : 64 ≤ i) : zb_t x i = false := BitVec.getLsbD_of_ge _ _ h
theorem zb_lt {x : Int64} {i : Nat} (h : zb_t x i = true) : i < 64 := by
  rcases Nat.lt_or_ge i 64 with z | z
  · exact z
  · rw [zb_big z] at h; exact nomatch h
theorem zb_0 (i : Nat) : zb_t 0 i = false := BitVec.getLsbD_zero
theorem zb_m1 : (-1 : Int64).toBitVec = BitVec.allOnes 64 := by decide
theorem zb_not (x : Int64) (i : Nat) : zb_t (x ^^^ (-1)) i = (decide (i < 64) && !zb_t x i) := by
  unfold zb_t
  rw [Int64.toBitVec_xor, BitVec.getLsbD_xor, zb_m1, BitVec.getLsbD_allOnes]
  rcases Nat.lt_or_ge i 64 with z | z
  · simp [z]
  · rw [BitVec.getLsbD_of_ge _ _ z]; simp [Nat.not_lt.mpr z]
theorem zb_c : ∀ k, k < 64 → ((1 : Int64) <<< ((nI k).toInt64 &&& 63)).toBitVec = BitVec.twoPow 64 k := by decide +kernel
theorem zb_one {k : Nat} (hk : k < 64) (i : Nat) : zb_t ((1 : Int64) <<< ((nI k).toInt64 &&& 63)) i = decide (k = i) := by
  unfold zb_t
  rw [zb_c k hk, BitVec.getLsbD_twoPow]
  by_cases e : k = i
  · subst e; simp [hk]
  · simp [e]
theorem zb_10 : zb_t 1 0 = true := by decide
theorem zb_1s : ∀ i, i < 63 → zb_t 1 (i + 1) = false := by decide +kernel
theorem zb_a1 (y : Int64) : (y &&& 1) = 1 ↔ zb_t y 0 = true := by
  constructor
  · intro h
    have t := congrArg (fun z => zb_t z 0) h
    rw [zb_and, zb_10, Bool.and_true] at t
    exact t
  · intro h
    apply Int64.toBitVec_inj.mp
    apply BitVec.eq_of_getLsbD_eq
    intro i hi
    show zb_t (y &&& 1) i = zb_t 1 i
    rw [zb_and]
    cases i with
    | zero => rw [h, Bool.true_and]
    | succ i => rw [zb_1s i (by omega), Bool.and_false]
theorem zb_cu : ∀ k, k < 64 → (((nI k).toInt64.toUInt64 &&& Int64.toUInt64 63).toBitVec % 64).toNat = k := by decide +kernel
theorem zb_ush (x : Int64) {k : Nat} (hk : k < 64) : ((x.toUInt64 >>> ((nI k).toInt64.toUInt64 &&& Int64.toUInt64 63)).toInt64 &&& 1) = 1 ↔ zb_t x k = true := by
  rw [zb_a1]
  have e : zb_t (x.toUInt64 >>> ((nI k).toInt64.toUInt64 &&& Int64.toUInt64 63)).toInt64 0 = zb_t x k := by
    show (x.toUInt64 >>> ((nI k).toInt64.toUInt64 &&& Int64.toUInt64 63)).toBitVec.getLsbD 0 = x.toUInt64.toBitVec.getLsbD k
    rw [UInt64.toBitVec_shiftRight]
    show (x.toUInt64.toBitVec >>> (((nI k).toInt64.toUInt64 &&& Int64.toUInt64 63).toBitVec % 64).toNat).getLsbD 0 = _
    rw [zb_cu k hk, BitVec.getLsbD_ushiftRight, Nat.add_zero]
  rw [e]
theorem zb_cs : ∀ k, k < 64 → (((nI k).toInt64 &&& 63).toBitVec.smod 64).toNat = k := by decide +kernel
theorem zb_ssh (x : Int64) {k : Nat} (hk : k < 64) : ((x >>> ((nI k).toInt64 &&& 63)) &&& 1) = 1 ↔ zb_t x k = true := by
  rw [zb_a1]
  have e : zb_t (x >>> ((nI k).toInt64 &&& 63)) 0 = zb_t x k := by
    unfold zb_t
    rw [Int64.toBitVec_shiftRight]
    show (x.toBitVec.sshiftRight (((nI k).toInt64 &&& 63).toBitVec.smod 64).toNat).getLsbD 0 = _
    rw [zb_cs k hk, BitVec.getLsbD_sshiftRight]
    simp [hk]
  rw [e]
theorem zb_z (x : Int64) : x = 0 ↔ ∀ b, zb_t x b = false := by
  constructor
  · intro h b; rw [h]; exact zb_0 b
  · intro h
    apply Int64.toBitVec_inj.mp
    apply BitVec.eq_of_getLsbD_eq
    intro i hi
    exact (h i).trans (zb_0 i).symm
theorem zb_ins (x : Int64) {a : Nat} (ha : a < 64) (j : Nat) : zb_t (x ||| ((1 : Int64) <<< ((nI a).toInt64 &&& 63))) j = true ↔ zb_t x j = true ∨ j = a := by
  rw [zb_or, zb_one ha, Bool.or_eq_true, decide_eq_true_iff]
  exact ⟨fun h => h.imp id Eq.symm, fun h => h.imp id Eq.symm⟩
end
section
/-! ===== the pure picture ===== -/
def zp_m (kd ro : Nat → Int32) (K : Nat → Bool) (k w : Int32) (a : Nat) : Prop := K a = true ∧ kd a = k ∧ ro a = w
def zp_l (st og : Nat → Int32) (a b : Nat) : Prop := st a < st b ∨ (st a = st b ∧ og a < og b)
def zp_La (st og : Nat → Int32) (M : Nat → Prop) (x : Int32) : Prop :=
  (x = -1 ∧ ∀ a, ¬ M a) ∨ (∃ b, x = nI b ∧ M b ∧ ∀ a, M a → a ≠ b → zp_l st og a b)
def zp_D (st og : Nat → Int32) (n : Nat) : Prop := ∀ a b, a < n → b < n → a ≠ b → st a = st b → og a ≠ og b
def zp_S (f : Nat → Int32) : Nat → Int32
  | 0 => 0
  | n + 1 => zp_S f n + f n
def zp_f (kd ro nu : Nat → Int32) (K : Nat → Bool) (w : Int32) (j : Nat) : Int32 := if K j = true ∧ kd j = 3 ∧ ro j = w then nu j else 0
def zp_Cx (kd ro : Nat → Int32) (kw : Nat → Int64) (K : Nat → Bool) (n b : Nat) : Prop := ∃ a, a < n ∧ K a = true ∧ kd a = 1 ∧ ro a = ro b ∧ zb_t (kw a) b = true
def zp_Th (kd ro : Nat → Int32) (kw : Nat → Int64) (K : Nat → Bool) (n : Nat) (w : Int32) : Prop := ∃ b, b < n ∧ zp_m kd ro K 0 w b ∧ ¬ zp_Cx kd ro kw K n b
theorem zp_tot {st og : Nat → Int32} {n a b : Nat} (hD : zp_D st og n) (ha : a < n) (hb : b < n) (h : a ≠ b) : zp_l st og a b ∨ zp_l st og b a := by
  unfold zp_l
  have h1 := hD a b ha hb h
  simp only [Int32.lt_iff_toInt_lt, ← Int32.toInt_inj] at *
  by_cases e : (st a).toInt = (st b).toInt
  · have h2 : ¬ (og a).toInt = (og b).toInt := fun z => h1 e (Int32.toInt_inj.mp z)
    omega
  · omega
theorem zp_asym {st og : Nat → Int32} {a b : Nat} (h1 : zp_l st og a b) (h2 : zp_l st og b a) : False := by
  unfold zp_l at h1 h2
  simp only [Int32.lt_iff_toInt_lt, ← Int32.toInt_inj] at h1 h2
  omega
theorem zp_trans {st og : Nat → Int32} {a b c : Nat} (h1 : zp_l st og a b) (h2 : zp_l st og b c) : zp_l st og a c := by
  unfold zp_l at *
  simp only [Int32.lt_iff_toInt_lt, ← Int32.toInt_inj] at *
  omega
theorem zp_uniq {st og : Nat → Int32} {M : Nat → Prop} {x y : Int32} (hx : zp_La st og M x) (hy : zp_La st og M y) : x = y := by
  rcases hx with ⟨rfl, h0⟩ | ⟨b, rfl, hb, hm⟩
  · rcases hy with ⟨rfl, _⟩ | ⟨c, rfl, hc, _⟩
    · rfl
    · exact absurd hc (h0 c)
  · rcases hy with ⟨rfl, h0⟩ | ⟨c, rfl, hc, hm'⟩
    · exact absurd hb (h0 b)
    · by_cases e : b = c
      · rw [e]
      · exact (zp_asym (hm' b hb e) (hm c hc (Ne.symm e))).elim
theorem zp_i0 {st og : Nat → Int32} {M M' : Nat → Prop} {a : Nat} (hM : ∀ j, M' j ↔ M j ∨ j = a) (h : ∀ j, ¬ M j) : zp_La st og M' (nI a) :=
  Or.inr ⟨a, rfl, (hM a).mpr (Or.inr rfl), fun j hj hne => ((hM j).mp hj).elim (fun z => absurd z (h j)) (fun z => absurd z hne)⟩
theorem zp_i1 {st og : Nat → Int32} {M M' : Nat → Prop} {a b : Nat} (hM : ∀ j, M' j ↔ M j ∨ j = a) (hm : ∀ j, M j → j ≠ b → zp_l st og j b) (hl : zp_l st og b a) : zp_La st og M' (nI a) := by
  refine Or.inr ⟨a, rfl, (hM a).mpr (Or.inr rfl), fun j hj hne => ?_⟩
  rcases (hM j).mp hj with z | z
  · by_cases e : j = b
    · rw [e]; exact hl
    · exact zp_trans (hm j z e) hl
  · exact absurd z hne
theorem zp_i2 {st og : Nat → Int32} {M M' : Nat → Prop} {a b : Nat} (hM : ∀ j, M' j ↔ M j ∨ j = a) (hb : M b) (hm : ∀ j, M j → j ≠ b → zp_l st og j b) (hl : zp_l st og a b) : zp_La st og M' (nI b) := by
  refine Or.inr ⟨b, rfl, (hM b).mpr (Or.inl hb), fun j hj hne => ?_⟩
  rcases (hM j).mp hj with z | z
  · exact hm j z hne
  · rw [z]; exact hl
theorem zp_Scong {f g : Nat → Int32} : ∀ n, (∀ j, j < n → f j = g j) → zp_S f n = zp_S g n
  | 0, _ => rfl
  | n + 1, h => by
    show zp_S f n + f n = zp_S g n + g n
    rw [zp_Scong n (fun j hj => h j (by omega)), h n (by omega)]
theorem zp_Sins {f g : Nat → Int32} {a : Nat} (hne : ∀ j, j ≠ a → g j = f j) (h0 : f a = 0) : ∀ n, a < n → zp_S g n = zp_S f n + g a
  | 0, h => absurd h (Nat.not_lt_zero a)
  | n + 1, h => by
    show zp_S g n + g n = zp_S f n + f n + g a
    by_cases e : a = n
    · subst e
      rw [h0, Int32.add_zero, zp_Scong a (fun j hj => hne j (by omega))]
    · rw [zp_Sins hne h0 n (by omega), hne n (Ne.symm e), Int32.add_assoc, Int32.add_comm (g a), ← Int32.add_assoc]
/-! ===== one more known action ===== -/
theorem zp_mI {kd ro : Nat → Int32} {K K' : Nat → Bool} {a : Nat} (hK : ∀ j, K' j = true ↔ K j = true ∨ j = a) {k w : Int32} (h1 : kd a = k) (h2 : ro a = w) (j : Nat) : zp_m kd ro K' k w j ↔ zp_m kd ro K k w j ∨ j = a := by
  unfold zp_m
  rw [hK]
  constructor
  · rintro ⟨z | z, h⟩
    · exact Or.inl ⟨z, h⟩
    · exact Or.inr z
  · rintro (⟨z, h⟩ | z)
    · exact ⟨Or.inl z, h⟩
    · rw [z]; exact ⟨Or.inr rfl, h1, h2⟩
theorem zp_mN {kd ro : Nat → Int32} {K K' : Nat → Bool} {a : Nat} (hK : ∀ j, K' j = true ↔ K j = true ∨ j = a) {k w : Int32} (h : ¬ (kd a = k ∧ ro a = w)) : zp_m kd ro K' k w = zp_m kd ro K k w := by
  funext j
  apply propext
  unfold zp_m
  rw [hK]
  constructor
  · rintro ⟨z | z, h2⟩
    · exact ⟨z, h2⟩
    · rw [z] at h2; exact absurd h2 h
  · rintro ⟨z, h2⟩
    exact ⟨Or.inl z, h2⟩
theorem zp_fN {kd ro nu : Nat → Int32} {K K' : Nat → Bool} {a : Nat} (hK : ∀ j, K' j = true ↔ K j = true ∨ j = a) {w : Int32} (h : ¬ (kd a = 3 ∧ ro a = w)) : zp_f kd ro nu K' w = zp_f kd ro nu K w := by
  funext j
  have e := congrFun (zp_mN hK h) j
  unfold zp_m at e
  unfold zp_f
  by_cases z : K j = true ∧ kd j = 3 ∧ ro j = w
  · rw [if_pos z, if_pos (e.mpr z)]
  · rw [if_neg z, if_neg (fun y => z (e.mp y))]
theorem zp_fI {kd ro nu : Nat → Int32} {K K' : Nat → Bool} {a : Nat} (hK : ∀ j, K' j = true ↔ K j = true ∨ j = a) (h0 : K a = false) {w : Int32} (h1 : kd a = 3) (h2 : ro a = w) {n : Nat} (ha : a < n) : zp_S (zp_f kd ro nu K' w) n = zp_S (zp_f kd ro nu K w) n + nu a := by
  have e : zp_f kd ro nu K' w a = nu a := if_pos ⟨(hK a).mpr (Or.inr rfl), h1, h2⟩
  rw [← e]
  refine zp_Sins (fun j hj => ?_) (if_neg (fun z => ?_)) n ha
  · have e2 := zp_mI hK h1 h2 j
    unfold zp_m at e2
    unfold zp_f
    by_cases z : K j = true ∧ kd j = 3 ∧ ro j = w
    · rw [if_pos z, if_pos (e2.mpr (Or.inl z))]
    · rw [if_neg z, if_neg (fun y => (e2.mp y).elim z hj)]
  · rw [h0] at z; exact nomatch z.1
end
section
/-! ===== the relation ===== -/
def zr_R (n : Nat) (kd ro nu st og : Nat → Int32) (K : Nat → Bool) (c : Int64) (w : Nat) (ad sd : Int64) (ln ll tt : Int32) : Prop :=
  (∀ b, zb_t ad b = true ↔ zp_m kd ro K 0 (nI w) b) ∧ (∀ b, zb_t sd b = true ↔ zb_t ad b = true ∧ zb_t c b = false) ∧
  zp_La st og (zp_m kd ro K 2 (nI w)) ln ∧ zp_La st og (zp_m kd ro K 4 (nI w)) ll ∧ tt = zp_S (zp_f kd ro nu K (nI w)) n
def zr_C (kd : Nat → Int32) (cn : Nat → Int64) (K : Nat → Bool) (c : Int64) : Prop := ∀ b, zb_t c b = true ↔ ∃ a, K a = true ∧ kd a = 1 ∧ zb_t (cn a) b = true
def zr_P (n : Nat) (kd ro nu st og : Nat → Int32) (cn : Nat → Int64) (K : Nat → Bool) (c : Int64) (ad sd : Nat → Int64) (ln ll tt : Nat → Int32) (r : Nat) : Prop :=
  zr_C kd cn K c ∧ ∀ w, w < 8 → zr_R n kd ro nu st og K c w (ad (r * 8 + w)) (sd (r * 8 + w)) (ln (r * 8 + w)) (ll (r * 8 + w)) (tt (r * 8 + w))
def zr_X (n : Nat) (kd ro nu st og : Nat → Int32) (cn kn cl ad sd : Nat → Int64) (ln ll tt : Nat → Int32) : Prop :=
  ∀ r, r < 3 → zr_P n kd ro nu st og cn (zb_t (kn r)) (cl r) ad sd ln ll tt r
/-- an action: its kind, its row, where it links to, what a drop cancels -/
def zt_A (n : Nat) (kd ro nu : Nat → Int32) (cn kw : Nat → Int64) (a : Nat) : Prop :=
  (kd a = 0 ∨ kd a = 1 ∨ kd a = 2 ∨ kd a = 3 ∨ kd a = 4) ∧ (∃ w, w < 8 ∧ ro a = nI w) ∧ (kd a = 4 → nu a = -1 ∨ ∃ w, w < 8 ∧ nu a = nI w) ∧
  (kd a = 1 → ∀ b, zb_t (cn a) b = true ↔ kd b = 0 ∧ ro b = ro a ∧ zb_t (kw a) b = true) ∧ (∀ b, zb_t (kw a) b = true → b < n)
def zt_T (n : Nat) (kd ro nu st og : Nat → Int32) (cn kw kn : Nat → Int64) (sm : Nat → Int32) : Prop :=
  n ≤ 60 ∧ (∀ a, a < n → zt_A n kd ro nu cn kw a) ∧ (∀ r, r < 3 → ∀ b, zb_t (kn r) b = true → b < n) ∧
  (∀ j, j < 3 → ∃ s, s ≤ n ∧ sm j = nI s) ∧ (∀ a, a < n → ∃ j, j < 3 ∧ og a = nI j ∧ st a ≤ sm j) ∧ zp_D st og n
def zz_R (u : SX) (v : SY) : Prop := ∃ (n : Nat) (kd ro nu st og : Nat → Int32) (cn : Nat → Int64) (sm : Nat → Int32) (kn cl ad sd : Nat → Int64) (ln ll tt : Nat → Int32) (kw : Nat → Int64),
  u = (nI n, kd, ro, nu, st, og, cn, sm, kn, cl, ad, sd, ln, ll, tt) ∧ v = (nI n, kd, ro, nu, st, og, kw, kn, sm) ∧ zt_T n kd ro nu st og cn kw kn sm ∧ zr_X n kd ro nu st og cn kn cl ad sd ln ll tt
theorem zz_el {P : SX → SY → Prop} (h : ∀ (n : Nat) (kd ro nu st og : Nat → Int32) (cn : Nat → Int64) (sm : Nat → Int32) (kn cl ad sd : Nat → Int64) (ln ll tt : Nat → Int32) (kw : Nat → Int64), zt_T n kd ro nu st og cn kw kn sm → zr_X n kd ro nu st og cn kn cl ad sd ln ll tt → P (nI n, kd, ro, nu, st, og, cn, sm, kn, cl, ad, sd, ln, ll, tt) (nI n, kd, ro, nu, st, og, kw, kn, sm)) {u : SX} {v : SY} (I : zz_R u v) : P u v :=
  I.elim fun n I => I.elim fun kd I => I.elim fun ro I => I.elim fun nu I => I.elim fun st I => I.elim fun og I => I.elim fun cn I => I.elim fun sm I => I.elim fun kn I => I.elim fun cl I => I.elim fun ad I => I.elim fun sd I => I.elim fun ln I => I.elim fun ll I => I.elim fun tt I => I.elim fun kw I =>
    by rw [I.1, I.2.1]; exact h n kd ro nu st og cn sm kn cl ad sd ln ll tt kw I.2.2.1 I.2.2.2
theorem zz_in {n : Nat} {kd ro nu st og : Nat → Int32} {cn : Nat → Int64} {sm : Nat → Int32} {kn cl ad sd : Nat → Int64} {ln ll tt : Nat → Int32} {kw : Nat → Int64} (hT : zt_T n kd ro nu st og cn kw kn sm) (hX : zr_X n kd ro nu st og cn kn cl ad sd ln ll tt) : zz_R (nI n, kd, ro, nu, st, og, cn, sm, kn, cl, ad, sd, ln, ll, tt) (nI n, kd, ro, nu, st, og, kw, kn, sm) :=
  ⟨n, kd, ro, nu, st, og, cn, sm, kn, cl, ad, sd, ln, ll, tt, kw, rfl, rfl, hT, hX⟩
section
variable {n : Nat} {kd ro nu st og : Nat → Int32} {cn : Nat → Int64} {sm : Nat → Int32} {kn cl ad sd : Nat → Int64} {ln ll tt : Nat → Int32} {kw : Nat → Int64}
/-! ===== one row of one replica changes ===== -/
theorem zr_take {r w : Nat} (hr : r < 3) (hw : w < 8) (hX : zr_X n kd ro nu st og cn kn cl ad sd ln ll tt) {Kn c A S : Int64} {L M T : Int32}
    (hc : zr_C kd cn (zb_t Kn) c) (hR : zr_R n kd ro nu st og (zb_t Kn) c w A S L M T)
    (hO : ∀ w', w' < 8 → w' ≠ w → zr_R n kd ro nu st og (zb_t Kn) c w' (ad (r * 8 + w')) (sd (r * 8 + w')) (ln (r * 8 + w')) (ll (r * 8 + w')) (tt (r * 8 + w'))) :
    zr_X n kd ro nu st og cn (vp_updL kn r Kn) (vp_updL cl r c) (vp_updL ad (r * 8 + w) A) (vp_updL sd (r * 8 + w) S) (upd ln (r * 8 + w) L) (upd ll (r * 8 + w) M) (upd tt (r * 8 + w) T) := by
  intro r' hr'
  by_cases e : r' = r
  · subst e
    rw [pk_uLs, pk_uLs]
    refine ⟨hc, fun w' hw' => ?_⟩
    by_cases e2 : w' = w
    · subst e2
      rw [pk_uLs, pk_uLs, pk_us, pk_us, pk_us]
      exact hR
    · have e3 : r' * 8 + w' ≠ r' * 8 + w := by omega
      rw [pk_uLn e3, pk_uLn e3, pk_un e3, pk_un e3, pk_un e3]
      exact hO w' hw' e2
  · rw [pk_uLn e, pk_uLn e]
    refine ⟨(hX r' hr').1, fun w' hw' => ?_⟩
    have e3 : r' * 8 + w' ≠ r * 8 + w := by omega
    rw [pk_uLn e3, pk_uLn e3, pk_un e3, pk_un e3, pk_un e3]
    exact (hX r' hr').2 w' hw'
theorem zr_takeE {r w : Nat} (hr : r < 3) (hw : w < 8) (hX : zr_X n kd ro nu st og cn kn cl ad sd ln ll tt) {Kn c A S : Int64} {L M T : Int32}
    {cl' ad' sd' : Nat → Int64} {ln' ll' tt' : Nat → Int32} (e1 : cl' = vp_updL cl r c) (e2 : ad' = vp_updL ad (r * 8 + w) A) (e3 : sd' = vp_updL sd (r * 8 + w) S) (e4 : ln' = upd ln (r * 8 + w) L) (e5 : ll' = upd ll (r * 8 + w) M) (e6 : tt' = upd tt (r * 8 + w) T)
    (hc : zr_C kd cn (zb_t Kn) c) (hR : zr_R n kd ro nu st og (zb_t Kn) c w A S L M T)
    (hO : ∀ w', w' < 8 → w' ≠ w → zr_R n kd ro nu st og (zb_t Kn) c w' (ad (r * 8 + w')) (sd (r * 8 + w')) (ln (r * 8 + w')) (ll (r * 8 + w')) (tt (r * 8 + w'))) :
    zr_X n kd ro nu st og cn (vp_updL kn r Kn) cl' ad' sd' ln' ll' tt' := by
  subst e1 e2 e3 e4 e5 e6
  exact zr_take hr hw hX hc hR hO
theorem zr_keep {K K' : Nat → Bool} {a : Nat} (hK : ∀ j, K' j = true ↔ K j = true ∨ j = a) {c c' : Int64} {w : Nat} (hne : ro a ≠ nI w) {A S : Int64} {L M T : Int32} (h : zr_R n kd ro nu st og K c w A S L M T) (hc : ∀ b, zb_t A b = true → zb_t c' b = zb_t c b) : zr_R n kd ro nu st og K' c' w A S L M T := by
  obtain ⟨h1, h2, h3, h4, h5⟩ := h
  have hn : ∀ k, ¬ (kd a = k ∧ ro a = nI w) := fun k z => hne z.2
  refine ⟨?_, fun b => ?_, ?_, ?_, ?_⟩
  · rw [zp_mN hK (hn 0)]; exact h1
  · rw [h2 b]
    exact ⟨fun z => ⟨z.1, (hc b z.1).trans z.2⟩, fun z => ⟨z.1, (hc b z.1).symm.trans z.2⟩⟩
  · rw [zp_mN hK (hn 2)]; exact h3
  · rw [zp_mN hK (hn 4)]; exact h4
  · rw [zp_fN hK (hn 3)]; exact h5
theorem zr_Cn {K K' : Nat → Bool} {a : Nat} (hK : ∀ j, K' j = true ↔ K j = true ∨ j = a) {c : Int64} (hne : kd a ≠ 1) (h : zr_C kd cn K c) : zr_C kd cn K' c := by
  intro b
  rw [h b]
  constructor
  · rintro ⟨j, h1, h2⟩
    exact ⟨j, (hK j).mpr (Or.inl h1), h2⟩
  · rintro ⟨j, h1, h2⟩
    rcases (hK j).mp h1 with z | z
    · exact ⟨j, z, h2⟩
    · rw [z] at h2; exact absurd h2.1 hne
theorem zr_Ci {K K' : Nat → Bool} {a : Nat} (hK : ∀ j, K' j = true ↔ K j = true ∨ j = a) {c : Int64} (he : kd a = 1) (h : zr_C kd cn K c) : zr_C kd cn K' (c ||| cn a) := by
  intro b
  rw [zb_or, Bool.or_eq_true, h b]
  constructor
  · rintro (⟨j, h1, h2⟩ | z)
    · exact ⟨j, (hK j).mpr (Or.inl h1), h2⟩
    · exact ⟨a, (hK a).mpr (Or.inr rfl), he, z⟩
  · rintro ⟨j, h1, h2⟩
    rcases (hK j).mp h1 with z | z
    · exact Or.inl ⟨j, z, h2⟩
    · rw [z] at h2; exact Or.inr h2.2
/-! ===== a new action, known to nobody yet ===== -/
theorem zr_ext (hX : zr_X n kd ro nu st og cn kn cl ad sd ln ll tt) (hK : ∀ r, r < 3 → ∀ b, zb_t (kn r) b = true → b < n) (k w x s o : Int32) (c : Int64) :
    zr_X (n + 1) (upd kd n k) (upd ro n w) (upd nu n x) (upd st n s) (upd og n o) (vp_updL cn n c) kn cl ad sd ln ll tt := by
  intro r hr
  obtain ⟨hc, hw⟩ := hX r hr
  have hb := hK r hr
  have hm : ∀ k' w', zp_m (upd kd n k) (upd ro n w) (zb_t (kn r)) k' w' = zp_m kd ro (zb_t (kn r)) k' w' := by
    intro k' w'
    funext j
    apply propext
    unfold zp_m
    constructor
    · rintro ⟨h1, h2⟩
      have := hb j h1
      rw [pk_un (by omega), pk_un (by omega)] at h2
      exact ⟨h1, h2⟩
    · rintro ⟨h1, h2⟩
      have := hb j h1
      rw [pk_un (by omega), pk_un (by omega)]
      exact ⟨h1, h2⟩
  have hl : ∀ a b, zb_t (kn r) a = true → zb_t (kn r) b = true → zp_l st og a b → zp_l (upd st n s) (upd og n o) a b := by
    intro a b h1 h2 h3
    have := hb a h1
    have := hb b h2
    unfold zp_l
    rw [pk_un (by omega), pk_un (by omega), pk_un (by omega), pk_un (by omega)]
    exact h3
  have hLa : ∀ k' w' y, zp_La st og (zp_m kd ro (zb_t (kn r)) k' w') y → zp_La (upd st n s) (upd og n o) (zp_m (upd kd n k) (upd ro n w) (zb_t (kn r)) k' w') y := by
    intro k' w' y h
    rw [hm]
    rcases h with h | ⟨b, rfl, h1, h2⟩
    · exact Or.inl h
    · exact Or.inr ⟨b, rfl, h1, fun a ha hne => hl a b ha.1 h1.1 (h2 a ha hne)⟩
  refine ⟨fun b => ?_, fun w' hw' => ?_⟩
  · rw [hc b]
    constructor
    · rintro ⟨j, h1, h2⟩
      have := hb j h1
      refine ⟨j, h1, ?_⟩
      rw [pk_un (by omega), pk_uLn (by omega)]
      exact h2
    · rintro ⟨j, h1, h2⟩
      have := hb j h1
      rw [pk_un (by omega), pk_uLn (by omega)] at h2
      exact ⟨j, h1, h2⟩
  · obtain ⟨h1, h2, h3, h4, h5⟩ := hw w' hw'
    refine ⟨?_, h2, hLa _ _ _ h3, hLa _ _ _ h4, ?_⟩
    · rw [hm]; exact h1
    · rw [h5]
      show _ = zp_S _ n + zp_f _ _ _ _ _ n
      have h0 : zp_f (upd kd n k) (upd ro n w) (upd nu n x) (zb_t (kn r)) (nI w') n = 0 := if_neg (fun z => by have := hb n z.1; omega)
      rw [h0, Int32.add_zero]
      apply zp_Scong
      intro j hj
      unfold zp_f
      rw [pk_un (by omega), pk_un (by omega), pk_un (by omega)]
end
end
section
/-! ===== arguments out of range ===== -/
def zx_bR (x : Int32) : Prop := x < 0 ∨ (¬ x < 0 ∧ ¬ x ≤ 2)
def zx_bW (x : Int32) : Prop := x < 0 ∨ (¬ x < 0 ∧ ¬ x < 8 ∧ ¬ x ≤ 7)
theorem zn_10 : ¬ (1 : Int32) = 0 := by decide
theorem zn_3t : (nI 3).toInt = 3 := by decide
theorem zn_2t : (2 : Int32).toInt = 2 := by decide
theorem zn_8t : (nI 8).toInt = 8 := by decide
theorem zn_8u : (8 : Int32).toInt = 8 := by decide
theorem zn_7t : (7 : Int32).toInt = 7 := by decide
theorem zn_0t : (0 : Int32).toInt = 0 := by decide
theorem zx_rep (x : Int32) : zx_bR x ∨ ∃ r, r < 3 ∧ x = nI r := by
  rcases pk_ix x (n := 3) (by omega) with h | h | h
  · exact Or.inl (Or.inl h)
  · refine Or.inl (Or.inr ?_)
    simp only [Int32.le_iff_toInt_le, Int32.lt_iff_toInt_lt, zn_3t, zn_2t, zn_0t] at *
    omega
  · exact Or.inr h
theorem zx_row (x : Int32) : zx_bW x ∨ ∃ w, w < 8 ∧ x = nI w := by
  rcases pk_ix x (n := 8) (by omega) with h | h | h
  · exact Or.inl (Or.inl h)
  · refine Or.inl (Or.inr ?_)
    simp only [Int32.le_iff_toInt_le, Int32.lt_iff_toInt_lt, zn_8t, zn_8u, zn_7t, zn_0t] at *
    omega
  · exact Or.inr h
theorem zx_R1 {post : Int32 → Prop} {x : Int32} (h : zx_bR x) (hp : post 1) : wpX_badReplica post x :=
  h.elim (fun z => br_t z hp) (fun z => br_f z.1 (br_f z.2 hp))
theorem zx_R0 {post : Int32 → Prop} {r : Nat} (h : r < 3) (hp : post 0) : wpX_badReplica post (nI r) :=
  br_f (nI_pos (by omega)) (br_t (nI_le (a := r) (b := 2) (by omega) (by omega)) hp)
theorem zx_W1 {post : Int32 → Prop} {x : Int32} (h : zx_bW x) (hp : post 1) : wpX_badRow post x :=
  h.elim (fun z => br_t z hp) (fun z => br_f z.1 (br_f z.2.1 hp))
theorem zx_W0 {post : Int32 → Prop} {r : Nat} (h : r < 8) (hp : post 0) : wpX_badRow post (nI r) :=
  br_f (nI_pos (by omega)) (br_t (nI_lt (a := r) (b := 8) (by omega) (by omega)) hp)
theorem zy_R1 {post : Int32 → Prop} {v : SY} {x : Int32} (h : zx_bR x) (hp : post 1) : wpY_badReplica post v x := by
  unfold wpY_badReplica
  exact h.elim (fun z => br_t z hp) (fun z => br_f z.1 (br_f z.2 hp))
theorem zy_R0 {post : Int32 → Prop} {v : SY} {r : Nat} (h : r < 3) (hp : post 0) : wpY_badReplica post v (nI r) := by
  unfold wpY_badReplica
  exact br_f (nI_pos (by omega)) (br_t (nI_le (a := r) (b := 2) (by omega) (by omega)) hp)
theorem zy_W1 {post : Int32 → Prop} {v : SY} {x : Int32} (h : zx_bW x) (hp : post 1) : wpY_badRow post v x := by
  unfold wpY_badRow
  exact h.elim (fun z => br_t z hp) (fun z => br_f z.1 (br_f z.2.2 hp))
theorem zy_W0 {post : Int32 → Prop} {v : SY} {r : Nat} (h : r < 8) (hp : post 0) : wpY_badRow post v (nI r) := by
  unfold wpY_badRow
  exact br_f (nI_pos (by omega)) (br_t (nI_le (a := r) (b := 7) (by omega) (by omega)) hp)
theorem zy_in {post : Int32 → Prop} (v : SY) {x : Int64} {a : Nat} (ha : a < 64) (h1 : zb_t x a = true → post 1) (h0 : zb_t x a = false → post 0) : wpY_in post v x (nI a) := by
  unfold wpY_in
  exact ⟨fun h => h1 ((zb_ssh x ha).mp h), fun h => h0 (Bool.eq_false_iff.mpr (fun z => h ((zb_ssh x ha).mpr z)))⟩
section
variable {n : Nat} {kd ro nu st og : Nat → Int32} {sm : Nat → Int32} {kn : Nat → Int64} {kw : Nat → Int64}
/-! ===== the reference's loops ===== -/
theorem zy_cxl {post : Int32 → Prop} {r b : Nat} (hr : r < 3) (hb : b < 60) (hn : n ≤ 60) (h1 : zp_Cx kd ro kw (zb_t (kn r)) n b → post 1) (h0 : ¬ zp_Cx kd ro kw (zb_t (kn r)) n b → post 0) :
    ∀ d i, i + d = n → (∀ a, a < i → ¬ (zb_t (kn r) a = true ∧ kd a = 1 ∧ ro a = ro b ∧ zb_t (kw a) b = true)) → wY_cancelled_2 post (nI r) (nI b) (nI n) kd ro nu st og kw kn sm (d + 1) (nI i) := by
  intro d
  induction d with
  | zero =>
    intro i hi hP
    exact br_t (zn_ge (by omega) (by omega)) (h0 (fun ⟨a, ha, z⟩ => hP a (by omega) z))
  | succ d ih =>
    intro i hi hP
    have er : (nI r).toNatClampNeg = r := zn_cl (by omega)
    have ei : (nI i).toNatClampNeg = i := zn_cl (by omega)
    have eb : (nI b).toNatClampNeg = b := zn_cl (by omega)
    have hi6 : vp_in (nI i) 60 := zn_in (by omega) (by omega)
    have nx : ¬ (zb_t (kn r) i = true ∧ kd i = 1 ∧ ro i = ro b ∧ zb_t (kw i) b = true) → wY_cancelled_2 post (nI r) (nI b) (nI n) kd ro nu st og kw kn sm (d + 1) (nI i + 1) := by
      intro z
      rw [nI_1]
      exact ih (i + 1) (by omega) (lt_s hP z)
    rw [wY_cancelled_2]
    dsimp only
    rw [er, ei, eb]
    refine br_f (zn_lt (by omega) (by omega)) ⟨zn_in hr (by omega), zy_in _ (by omega) (fun z1 => ?_) (fun z0 => ?_)⟩
    · refine br_f zn_10 ⟨hi6, br_c (fun e1 => ⟨hi6, zn_in hb (by omega), br_c (fun e2 => ⟨hi6, zy_in _ (by omega) (fun z3 => ?_) (fun z3 => ?_)⟩) (fun e2 => ?_)⟩) (fun e1 => ?_)⟩
      · exact br_f zn_10 (h1 ⟨i, by omega, z1, e1, e2, z3⟩)
      · exact br_t rfl (nm_e (nx (fun z => by rw [z3] at z; exact nomatch z.2.2.2)))
      · exact nm_e (nx (fun z => e2 z.2.2.1))
      · exact nm_e (nx (fun z => e1 z.2.1))
    · exact br_t rfl (nm_e (nx (fun z => by rw [z0] at z; exact nomatch z.1)))
theorem zy_cancelled {post : Int32 → Prop} {r b : Nat} (hr : r < 3) (hb : b < 60) (hn : n ≤ 60) (h1 : zp_Cx kd ro kw (zb_t (kn r)) n b → post 1) (h0 : ¬ zp_Cx kd ro kw (zb_t (kn r)) n b → post 0) : wpY_cancelled post (nI n, kd, ro, nu, st, og, kw, kn, sm) (nI r) (nI b) := by
  unfold wpY_cancelled
  exact ⟨n + 1, zy_cxl hr hb hn h1 h0 n 0 (by omega) lt_0⟩
theorem zy_thl {post : Int32 → Prop} {r : Nat} {w : Int32} (hr : r < 3) (hn : n ≤ 60) (h1 : zp_Th kd ro kw (zb_t (kn r)) n w → post 1) (h0 : ¬ zp_Th kd ro kw (zb_t (kn r)) n w → post 0) :
    ∀ d i, i + d = n → (∀ a, a < i → ¬ (zp_m kd ro (zb_t (kn r)) 0 w a ∧ ¬ zp_Cx kd ro kw (zb_t (kn r)) n a)) → wY_there_20 post (nI r) w (nI n) kd ro nu st og kw kn sm (d + 1) (nI i) := by
  intro d
  induction d with
  | zero =>
    intro i hi hP
    exact br_t (zn_ge (by omega) (by omega)) (h0 (fun ⟨a, ha, z⟩ => hP a (by omega) z))
  | succ d ih =>
    intro i hi hP
    have er : (nI r).toNatClampNeg = r := zn_cl (by omega)
    have ei : (nI i).toNatClampNeg = i := zn_cl (by omega)
    have hi6 : vp_in (nI i) 60 := zn_in (by omega) (by omega)
    have nx : ¬ (zp_m kd ro (zb_t (kn r)) 0 w i ∧ ¬ zp_Cx kd ro kw (zb_t (kn r)) n i) → wY_there_20 post (nI r) w (nI n) kd ro nu st og kw kn sm (d + 1) (nI i + 1) := by
      intro z
      rw [nI_1]
      exact ih (i + 1) (by omega) (lt_s hP z)
    rw [wY_there_20]
    dsimp only
    rw [er, ei]
    refine br_f (zn_lt (by omega) (by omega)) ⟨zn_in hr (by omega), zy_in _ (by omega) (fun z1 => ?_) (fun z0 => ?_)⟩
    · refine br_f zn_10 ⟨hi6, br_c (fun e1 => ⟨hi6, br_c (fun e2 => zy_cancelled hr (by omega) hn (fun z3 => ?_) (fun z3 => ?_)) (fun e2 => ?_)⟩) (fun e1 => ?_)⟩
      · exact br_f zn_10 (nm_e (nx (fun z => z.2 z3)))
      · exact br_t rfl (h1 ⟨i, by omega, ⟨z1, e1, e2⟩, z3⟩)
      · exact nm_e (nx (fun z => e2 z.1.2.2))
      · exact nm_e (nx (fun z => e1 z.1.2.1))
    · exact br_t rfl (nm_e (nx (fun z => by have z2 := z.1.1; rw [z0] at z2; exact nomatch z2)))
theorem zy_there {post : Int32 → Prop} {r w : Nat} (hr : r < 3) (hw : w < 8) (hn : n ≤ 60) (h1 : zp_Th kd ro kw (zb_t (kn r)) n (nI w) → post 1) (h0 : ¬ zp_Th kd ro kw (zb_t (kn r)) n (nI w) → post 0) : wpY_there post (nI n, kd, ro, nu, st, og, kw, kn, sm) (nI r) (nI w) := by
  unfold wpY_there
  exact zy_R0 hr (br_t rfl (zy_W0 hw (br_t rfl ⟨n + 1, zy_thl hr hn h1 h0 n 0 (by omega) lt_0⟩)))
theorem zy_there1 {post : Int32 → Prop} {x y : Int32} (h : zx_bR x) (hp : post 0) : wpY_there post (nI n, kd, ro, nu, st, og, kw, kn, sm) x y := by
  unfold wpY_there
  exact zy_R1 h (br_f zn_10 hp)
theorem zy_there2 {post : Int32 → Prop} {r : Nat} {y : Int32} (hr : r < 3) (h : zx_bW y) (hp : post 0) : wpY_there post (nI n, kd, ro, nu, st, og, kw, kn, sm) (nI r) y := by
  unfold wpY_there
  exact zy_R0 hr (br_t rfl (zy_W1 h (br_f zn_10 hp)))
theorem zp_Mn {M : Nat → Prop} {i : Nat} (h : ¬ M i) : (fun j => j < i + 1 ∧ M j) = (fun j => j < i ∧ M j) := by
  funext j
  apply propext
  constructor
  · rintro ⟨h1, h2⟩
    by_cases e : j = i
    · rw [e] at h2; exact absurd h2 h
    · exact ⟨by omega, h2⟩
  · rintro ⟨h1, h2⟩
    exact ⟨by omega, h2⟩
theorem zp_Ms {M : Nat → Prop} {i : Nat} (h : M i) (j : Nat) : (j < i + 1 ∧ M j) ↔ (j < i ∧ M j) ∨ j = i := by
  constructor
  · rintro ⟨h1, h2⟩
    by_cases e : j = i
    · exact Or.inr e
    · exact Or.inl ⟨by omega, h2⟩
  · rintro (⟨h1, h2⟩ | e)
    · exact ⟨by omega, h2⟩
    · rw [e]; exact ⟨by omega, h⟩
theorem zy_lal {post : Int32 → Prop} {r : Nat} {w k : Int32} (hr : r < 3) (hn : n ≤ 60) (hD : zp_D st og n) (hp : ∀ x, zp_La st og (fun j => j < n ∧ zp_m kd ro (zb_t (kn r)) k w j) x → post x) :
    ∀ d i x, i + d = n → zp_La st og (fun j => j < i ∧ zp_m kd ro (zb_t (kn r)) k w j) x → wY_last_6 post (nI r) w k (nI n) kd ro nu st og kw kn sm (d + 1) x (nI i) := by
  intro d
  induction d with
  | zero =>
    intro i x hi hP
    have e : i = n := by omega
    subst e
    exact br_t (zn_ge (by omega) (by omega)) (hp x hP)
  | succ d ih =>
    intro i x hi hP
    have er : (nI r).toNatClampNeg = r := zn_cl (by omega)
    have ei : (nI i).toNatClampNeg = i := zn_cl (by omega)
    have hi6 : vp_in (nI i) 60 := zn_in (by omega) (by omega)
    have nx : ∀ y, zp_La st og (fun j => j < i + 1 ∧ zp_m kd ro (zb_t (kn r)) k w j) y → wY_last_6 post (nI r) w k (nI n) kd ro nu st og kw kn sm (d + 1) y (nI i + 1) := by
      intro y z
      rw [nI_1]
      exact ih (i + 1) y (by omega) z
    have nk : ¬ zp_m kd ro (zb_t (kn r)) k w i → wY_last_6 post (nI r) w k (nI n) kd ro nu st og kw kn sm (d + 1) x (nI i + 1) := by
      intro z
      refine nx x ?_
      rw [zp_Mn z]
      exact hP
    rw [wY_last_6]
    dsimp only
    rw [er, ei]
    refine br_f (zn_lt (by omega) (by omega)) ⟨zn_in hr (by omega), zy_in _ (by omega) (fun z1 => ?_) (fun z0 => ?_)⟩
    · refine br_f zn_10 ⟨hi6, br_c (fun e1 => ⟨hi6, br_c (fun e2 => ?_) (fun e2 => ?_)⟩) (fun e1 => ?_)⟩
      · have hM := zp_Ms (M := zp_m kd ro (zb_t (kn r)) k w) (i := i) ⟨z1, e1, e2⟩
        rcases hP with ⟨rfl, h0⟩ | ⟨b, rfl, hb, hm⟩
        · exact br_t (by decide) (nm_e (nx (nI i) (zp_i0 hM h0)))
        · have hbi : b < i := hb.1
          have eb : (nI b).toNatClampNeg = b := zn_cl (by omega)
          have hb6 : vp_in (nI b) 60 := zn_in (by omega) (by omega)
          have ht := zp_tot hD (show i < n by omega) (show b < n by omega) (by omega)
          rw [eb]
          refine br_f (nI_pos (by omega)) ⟨hi6, hb6, br_c (fun e3 => ?_) (fun e3 => ⟨hi6, hb6, br_c (fun e4 => ⟨hi6, hb6, br_c (fun e5 => ?_) (fun e5 => ?_)⟩) (fun e4 => ?_)⟩)⟩
          · exact nm_e (nx (nI i) (zp_i1 hM hm (Or.inl e3)))
          · refine nm_e (nx (nI b) (zp_i2 hM hb hm (ht.resolve_right ?_)))
            rintro (z | z)
            · exact e3 z
            · exact Int32.not_lt.mpr e5 z.2
          · exact nm_e (nx (nI i) (zp_i1 hM hm (Or.inr ⟨e4.symm, Int32.not_le.mp e5⟩)))
          · refine nm_e (nx (nI b) (zp_i2 hM hb hm (ht.resolve_right ?_)))
            rintro (z | z)
            · exact e3 z
            · exact e4 z.1.symm
      · exact nm_e (nk (fun z => e2 z.2.2))
      · exact nm_e (nk (fun z => e1 z.2.1))
    · exact br_t rfl (nm_e (nk (fun z => by have z2 := z.1; rw [z0] at z2; exact nomatch z2)))
theorem zy_last {post : Int32 → Prop} {r : Nat} {w k x : Int32} (hr : r < 3) (hn : n ≤ 60) (hD : zp_D st og n) (hK : ∀ b, zb_t (kn r) b = true → b < n) (hL : zp_La st og (zp_m kd ro (zb_t (kn r)) k w) x) (hp : post x) : wpY_last post (nI n, kd, ro, nu, st, og, kw, kn, sm) (nI r) w k := by
  unfold wpY_last
  refine ⟨n + 1, zy_lal hr hn hD (fun y hy => ?_) n 0 (-1) (by omega) (Or.inl ⟨rfl, fun a ha => Nat.not_lt_zero a ha.1⟩)⟩
  have e : (fun j => j < n ∧ zp_m kd ro (zb_t (kn r)) k w j) = zp_m kd ro (zb_t (kn r)) k w := by
    funext j
    exact propext ⟨fun z => z.2, fun z => ⟨hK j z.1, z⟩⟩
  rw [e] at hy
  rw [zp_uniq hy hL]
  exact hp
theorem zy_cnl {post : Int32 → Prop} {r : Nat} {w : Int32} (hr : r < 3) (hn : n ≤ 60) (hp : post (zp_S (zp_f kd ro nu (zb_t (kn r)) w) n)) :
    ∀ d i x, i + d = n → x = zp_S (zp_f kd ro nu (zb_t (kn r)) w) i → wY_countOf_16 post (nI r) w (nI n) kd ro nu st og kw kn sm (d + 1) x (nI i) := by
  intro d
  induction d with
  | zero =>
    intro i x hi hx
    have e : i = n := by omega
    subst e
    subst hx
    exact br_t (zn_ge (by omega) (by omega)) hp
  | succ d ih =>
    intro i x hi hx
    have er : (nI r).toNatClampNeg = r := zn_cl (by omega)
    have ei : (nI i).toNatClampNeg = i := zn_cl (by omega)
    have hi6 : vp_in (nI i) 60 := zn_in (by omega) (by omega)
    have nk : ¬ (zb_t (kn r) i = true ∧ kd i = 3 ∧ ro i = w) → wY_countOf_16 post (nI r) w (nI n) kd ro nu st og kw kn sm (d + 1) x (nI i + 1) := by
      intro z
      rw [nI_1]
      refine ih (i + 1) x (by omega) ?_
      have e : zp_f kd ro nu (zb_t (kn r)) w i = 0 := if_neg z
      show x = zp_S _ i + zp_f _ _ _ _ _ i
      rw [e, Int32.add_zero, hx]
    have ny : (zb_t (kn r) i = true ∧ kd i = 3 ∧ ro i = w) → wY_countOf_16 post (nI r) w (nI n) kd ro nu st og kw kn sm (d + 1) (x + nu i) (nI i + 1) := by
      intro z
      rw [nI_1]
      refine ih (i + 1) (x + nu i) (by omega) ?_
      have e : zp_f kd ro nu (zb_t (kn r)) w i = nu i := if_pos z
      show x + nu i = zp_S _ i + zp_f _ _ _ _ _ i
      rw [e, hx]
    rw [wY_countOf_16]
    dsimp only
    rw [er, ei]
    refine br_f (zn_lt (by omega) (by omega)) ⟨zn_in hr (by omega), zy_in _ (by omega) (fun z1 => ?_) (fun z0 => ?_)⟩
    · refine br_f zn_10 ⟨hi6, br_c (fun e1 => ⟨hi6, br_c (fun e2 => ⟨hi6, ?_⟩) (fun e2 => ?_)⟩) (fun e1 => ?_)⟩
      · exact nm_e (nm_e (ny ⟨z1, e1, e2⟩))
      · exact nm_e (nk (fun z => e2 z.2.2))
      · exact nm_e (nk (fun z => e1 z.2.1))
    · exact br_t rfl (nm_e (nk (fun z => by have z2 := z.1; rw [z0] at z2; exact nomatch z2)))
/-! ===== the reference's new action ===== -/
theorem zy_act {post : Int32 → SY → Prop} {r : Nat} {k w x : Int32} (hr : r < 3) (hn : n < 60)
    (hp : post (nI n) (nI (n + 1), upd kd n k, upd ro n w, upd nu n x, upd st n (sm r + 1), upd og n (nI r), vp_updL kw n (kn r), vp_updL kn r (kn r ||| ((1 : Int64) <<< ((nI n).toInt64 &&& 63))), upd sm r (sm r + 1))) :
    wY_act_57 post (nI r) k w x (nI n) kd ro nu st og kw kn sm := by
  have er : (nI r).toNatClampNeg = r := zn_cl (by omega)
  have en : (nI n).toNatClampNeg = n := zn_cl (by omega)
  have hi : vp_in (nI n) 60 := zn_in hn (by omega)
  have h3 : vp_in (nI r) 3 := zn_in hr (by omega)
  have h60 : ¬ nI n = 60 := fun z => by have := zn_inj (b := 60) (by omega) (by omega) z; omega
  unfold wY_act_57
  rw [er, en]
  refine br_f h60 ⟨hi, fun _ e1 => ⟨hi, fun _ e2 => ⟨hi, fun _ e3 => ⟨hi, fun _ e4 => ⟨h3, hi, fun _ e5 => ⟨h3, h3, fun _ e6 => ⟨h3, hi, fun _ e7 => ⟨h3, h3, fun _ e8 => fun _ e9 => ?_⟩⟩⟩⟩⟩⟩⟩⟩
  subst e1 e2 e3 e4 e5 e6 e7 e8 e9
  rw [pk_us, nI_1]
  exact hp
end
end
section
section
variable {n : Nat} {kd ro nu st og : Nat → Int32} {cn : Nat → Int64} {sm : Nat → Int32} {kn cl ad sd : Nat → Int64} {ln ll tt : Nat → Int32} {kw : Nat → Int64}
/-! ===== a row is there ===== -/
theorem zr_th {r w : Nat} (hT : zt_T n kd ro nu st og cn kw kn sm) (hX : zr_X n kd ro nu st og cn kn cl ad sd ln ll tt) (hr : r < 3) (hw : w < 8) :
    sd (r * 8 + w) = 0 ↔ ¬ zp_Th kd ro kw (zb_t (kn r)) n (nI w) := by
  obtain ⟨hC, hR⟩ := hX r hr
  obtain ⟨h1, h2, _⟩ := hR w hw
  have hK := hT.2.2.1 r hr
  rw [zb_z]
  constructor
  · rintro h0 ⟨b, hb, hm, hc⟩
    have hc' : zb_t (cl r) b = false := by
      apply Bool.eq_false_iff.mpr
      intro z
      obtain ⟨a, ka, k1, ca⟩ := (hC b).mp z
      obtain ⟨_, hro, hkw⟩ := ((hT.2.1 a (hK a ka)).2.2.2.1 k1 b).mp ca
      exact hc ⟨a, hK a ka, ka, k1, hro.symm, hkw⟩
    have := (h2 b).mpr ⟨(h1 b).mpr hm, hc'⟩
    rw [h0 b] at this
    exact nomatch this
  · intro h b
    apply Bool.eq_false_iff.mpr
    intro z
    obtain ⟨z1, z2⟩ := (h2 b).mp z
    have hm := (h1 b).mp z1
    refine h ⟨b, hK b hm.1, hm, ?_⟩
    rintro ⟨a, ha, ka, k1, hro, hkw⟩
    have ca := ((hT.2.1 a ha).2.2.2.1 k1 b).mpr ⟨hm.2.1, hro.symm, hkw⟩
    have := (hC b).mpr ⟨a, ka, k1, ca⟩
    rw [z2] at this
    exact nomatch this
theorem zx_there {post : Int32 → Prop} {r w : Nat} (hT : zt_T n kd ro nu st og cn kw kn sm) (hX : zr_X n kd ro nu st og cn kn cl ad sd ln ll tt) (hr : r < 3) (hw : w < 8)
    (h1 : zp_Th kd ro kw (zb_t (kn r)) n (nI w) → post 1) (h0 : ¬ zp_Th kd ro kw (zb_t (kn r)) n (nI w) → post 0) : wpX_isThere post (nI n, kd, ro, nu, st, og, cn, sm, kn, cl, ad, sd, ln, ll, tt) (nI r) (nI w) := by
  have hth := zr_th hT hX hr hw
  unfold wpX_isThere
  dsimp only
  rw [zn_ix, zn_cl (by omega)]
  exact ⟨zn_in (by omega) (by omega), br_c (fun e => h0 (hth.mp e)) (fun e => h1 (Classical.byContradiction (fun z => e (hth.mpr z))))⟩
theorem zq_there {r w : Nat} (hT : zt_T n kd ro nu st og cn kw kn sm) (hX : zr_X n kd ro nu st og cn kn cl ad sd ln ll tt) (hr : r < 3) (hw : w < 8) :
    ∃ x : Int32, (x = 0 ∨ x = 1) ∧ (∀ post : Int32 → Prop, post x → wpX_isThere post (nI n, kd, ro, nu, st, og, cn, sm, kn, cl, ad, sd, ln, ll, tt) (nI r) (nI w)) ∧ (∀ post : Int32 → Prop, post x → wpY_there post (nI n, kd, ro, nu, st, og, kw, kn, sm) (nI r) (nI w)) := by
  by_cases h : zp_Th kd ro kw (zb_t (kn r)) n (nI w)
  · exact ⟨1, Or.inr rfl, fun post hp => zx_there hT hX hr hw (fun _ => hp) (fun z => absurd h z), fun post hp => zy_there hr hw hT.1 (fun _ => hp) (fun z => absurd h z)⟩
  · exact ⟨0, Or.inl rfl, fun post hp => zx_there hT hX hr hw (fun z => absurd z h) (fun _ => hp), fun post hp => zy_there hr hw hT.1 (fun z => absurd z h) (fun _ => hp)⟩
/-! ===== later ===== -/
theorem zx_lat0 {post : Int32 → Prop} {fa x : Int32} (hp : post 1) : wpX_later post (fa, kd, ro, nu, st, og, cn, sm, kn, cl, ad, sd, ln, ll, tt) x (-1) := by
  unfold wpX_later
  exact br_f (by decide) hp
theorem zx_lat {post : Int32 → Prop} {fa : Int32} {a b : Nat} (ha : a < 60) (hb : b < 60) (h1 : zp_l st og b a → post 1) (h0 : ¬ zp_l st og b a → post 0) : wpX_later post (fa, kd, ro, nu, st, og, cn, sm, kn, cl, ad, sd, ln, ll, tt) (nI a) (nI b) := by
  have ea : (nI a).toNatClampNeg = a := zn_cl (by omega)
  have eb : (nI b).toNatClampNeg = b := zn_cl (by omega)
  have ha6 : vp_in (nI a) 60 := zn_in ha (by omega)
  have hb6 : vp_in (nI b) 60 := zn_in hb (by omega)
  unfold wpX_later
  dsimp only
  rw [ea, eb]
  refine br_t (nI_pos' (by omega)) ⟨ha6, hb6, br_c (fun e1 => ⟨ha6, hb6, br_c (fun e2 => h0 ?_) (fun e2 => h1 ?_)⟩) (fun e1 => ⟨ha6, hb6, br_c (fun e2 => h0 ?_) (fun e2 => h1 ?_)⟩)⟩
  · rintro (z | z)
    · rw [e1] at z; exact Int32.lt_irrefl z
    · exact Int32.not_lt.mpr e2 z.2
  · exact Or.inr ⟨e1.symm, Int32.not_le.mp e2⟩
  · rintro (z | z)
    · exact Int32.not_lt.mpr e2 z
    · exact e1 z.1.symm
  · exact Or.inl (Int32.not_le.mp e2)
/-- the last one, when a is met: the new value, and how 'later' answers -/
theorem zx_new {fa : Int32} {a : Nat} {M M' : Nat → Prop} {y : Int32} (hn : n ≤ 60) (hD : zp_D st og n) (ha : a < n) (hMn : ∀ j, M j → j < n) (h0 : ¬ M a) (hM : ∀ j, M' j ↔ M j ∨ j = a) (hL : zp_La st og M y) :
    (zp_La st og M' y ∧ ∀ post : Int32 → Prop, post 0 → wpX_later post (fa, kd, ro, nu, st, og, cn, sm, kn, cl, ad, sd, ln, ll, tt) (nI a) y) ∨ (zp_La st og M' (nI a) ∧ ∀ post : Int32 → Prop, post 1 → wpX_later post (fa, kd, ro, nu, st, og, cn, sm, kn, cl, ad, sd, ln, ll, tt) (nI a) y) := by
  rcases hL with ⟨rfl, h⟩ | ⟨b, rfl, hb, hm⟩
  · exact Or.inr ⟨zp_i0 hM h, fun post hp => zx_lat0 hp⟩
  · have hbn := hMn b hb
    have hne : a ≠ b := fun z => h0 (z ▸ hb)
    by_cases e : zp_l st og b a
    · exact Or.inr ⟨zp_i1 hM hm e, fun post hp => zx_lat (by omega) (by omega) (fun _ => hp) (fun z => absurd e z)⟩
    · exact Or.inl ⟨zp_i2 hM hb hm ((zp_tot hD ha hbn hne).resolve_right e), fun post hp => zx_lat (by omega) (by omega) (fun z => absurd z e) (fun _ => hp)⟩
end
end
section
section
variable {n : Nat} {kd ro nu st og : Nat → Int32} {cn : Nat → Int64} {sm : Nat → Int32} {kn cl ad sd : Nat → Int64} {ln ll tt : Nat → Int32} {kw : Nat → Int64}
theorem zx_39 {r a : Nat} (fa : Int32) (hr : r < 3) (ha : a < n) (hn : n ≤ 60) (hD : zp_D st og n) (hb : ∀ b, zb_t (kn r) b = true → b < n) (hk : zb_t (kn r) a = false) (hA : zt_A n kd ro nu cn kw a) (hX : zr_X n kd ro nu st og cn kn cl ad sd ln ll tt)
    {Kn : Int64} (eK : Kn = kn r ||| ((1 : Int64) <<< ((nI a).toInt64 &&& 63))) :
    ∃ (cl' ad' sd' : Nat → Int64) (ln' ll' tt' : Nat → Int32), zr_X n kd ro nu st og cn (vp_updL kn r Kn) cl' ad' sd' ln' ll' tt' ∧
      ∀ post : SX → Prop, post (fa, kd, ro, nu, st, og, cn, sm, vp_updL kn r Kn, cl', ad', sd', ln', ll', tt') → wX_takeIn_39 post (nI r) (nI a) fa kd ro nu st og cn sm (vp_updL kn r Kn) cl ad sd ln ll tt := by
  have hK : ∀ j, zb_t Kn j = true ↔ zb_t (kn r) j = true ∨ j = a := fun j => by rw [eK]; exact zb_ins (kn r) (by omega) j
  obtain ⟨hkd, ⟨w, hw, hro⟩, _, hcn, _⟩ := hA
  obtain ⟨hC, hRow⟩ := hX r hr
  have hne : ∀ w', w' < 8 → w' ≠ w → ro a ≠ nI w' := fun w' hw' h z => h (zn_inj (by omega) (by omega) (z.symm.trans hro))
  have hO : ∀ w', w' < 8 → w' ≠ w → zr_R n kd ro nu st og (zb_t Kn) (cl r) w' (ad (r * 8 + w')) (sd (r * 8 + w')) (ln (r * 8 + w')) (ll (r * 8 + w')) (tt (r * 8 + w')) := fun w' hw' h => zr_keep hK (hne w' hw' h) (hRow w' hw') (fun _ _ => rfl)
  obtain ⟨h1, h2, h3, h4, h5⟩ := hRow w hw
  have er : (nI r).toNatClampNeg = r := zn_cl (by omega)
  have ea : (nI a).toNatClampNeg = a := zn_cl (by omega)
  have eix : (nI (r * 8 + w)).toNatClampNeg = r * 8 + w := zn_cl (by omega)
  have ha6 : vp_in (nI a) 60 := zn_in (by omega) (by omega)
  have hr3 : vp_in (nI r) 3 := zn_in hr (by omega)
  have hx : vp_in (nI (r * 8 + w)) 24 := zn_in (by omega) (by omega)
  have e3 : nI r * 8 + ro a = nI (r * 8 + w) := by rw [hro, zn_ix]
  have hm0 : ∀ k, kd a ≠ k → ¬ (kd a = k ∧ ro a = nI w) := fun k h z => h z.1
  have hna : ∀ k w', ¬ zp_m kd ro (zb_t (kn r)) k w' a := fun k w' z => by have := z.1; rw [hk] at this; exact nomatch this
  rcases hkd with e | e | e | e | e
  · -- an add
    have hb1 := zb_one (k := a) (by omega)
    refine ⟨cl, vp_updL ad (r * 8 + w) (ad (r * 8 + w) ||| ((1 : Int64) <<< ((nI a).toInt64 &&& 63))), vp_updL sd (r * 8 + w) (sd (r * 8 + w) ||| (((1 : Int64) <<< ((nI a).toInt64 &&& 63)) &&& (cl r ^^^ (-1)))), ln, ll, tt, ?_, ?_⟩
    · refine zr_takeE hr hw hX (zu_Le cl _).symm rfl rfl (zu_e ln _).symm (zu_e ll _).symm (zu_e tt _).symm
        (zr_Cn hK (by rw [e]; decide) hC) ⟨fun b => ?_, fun b => ?_, ?_, ?_, ?_⟩ hO
      · rw [zb_ins _ (by omega), h1 b, zp_mI hK e hro b]
      · have hb64 : a = b → b < 64 := fun z => by omega
        rw [zb_ins _ (by omega), zb_or, zb_and, hb1, zb_not, Bool.or_eq_true, Bool.and_eq_true, Bool.and_eq_true, decide_eq_true_iff, decide_eq_true_iff, h2 b, Bool.not_eq_true']
        constructor
        · rintro (z | z)
          · exact ⟨Or.inl z.1, z.2⟩
          · exact ⟨Or.inr z.1.symm, z.2.2⟩
        · rintro ⟨z | z, z2⟩
          · exact Or.inl ⟨z, z2⟩
          · exact Or.inr ⟨z.symm, hb64 z.symm, z2⟩
      · rw [zp_mN hK (hm0 2 (by rw [e]; decide))]; exact h3
      · rw [zp_mN hK (hm0 4 (by rw [e]; decide))]; exact h4
      · rw [zp_fN hK (hm0 3 (by rw [e]; decide))]; exact h5
    · intro post hp
      unfold wX_takeIn_39
      rw [er, ea]
      refine ⟨ha6, nm_r e3 ⟨ha6, nm_r e ?_⟩⟩
      rw [eix]
      exact br_f (by decide) (br_f (by decide) (br_t rfl ⟨hx, hx, nm_e ⟨hx, hr3, hx, nm_e hp⟩⟩))
  · -- a drop
    refine ⟨vp_updL cl r (cl r ||| cn a), ad, vp_updL sd (r * 8 + w) (sd (r * 8 + w) &&& (cn a ^^^ (-1))), ln, ll, tt, ?_, ?_⟩
    · refine zr_takeE hr hw hX rfl (zu_Le ad _).symm rfl (zu_e ln _).symm (zu_e ll _).symm (zu_e tt _).symm
        (zr_Ci hK e hC) ⟨?_, fun b => ?_, ?_, ?_, ?_⟩ (fun w' hw' h => zr_keep hK (hne w' hw' h) (hRow w' hw') (fun b z => ?_))
      · rw [zp_mN hK (hm0 0 (by rw [e]; decide))]; exact h1
      · rw [zb_and, zb_not, zb_or, Bool.and_eq_true, Bool.and_eq_true, decide_eq_true_iff, h2 b, Bool.or_eq_false_iff, Bool.not_eq_true']
        constructor
        · rintro ⟨z, z2⟩
          exact ⟨z.1, z.2, z2.2⟩
        · rintro ⟨z, z2⟩
          exact ⟨⟨z, z2.1⟩, zb_lt z, z2.2⟩
      · rw [zp_mN hK (hm0 2 (by rw [e]; decide))]; exact h3
      · rw [zp_mN hK (hm0 4 (by rw [e]; decide))]; exact h4
      · rw [zp_fN hK (hm0 3 (by rw [e]; decide))]; exact h5
      · have hz := ((hRow w' hw').1 b).mp z
        have hf : zb_t (cn a) b = false := by
          apply Bool.eq_false_iff.mpr
          intro y
          have y2 := ((hcn e b).mp y).2.1
          exact hne w' hw' h (y2.symm.trans hz.2.2)
        rw [zb_or, hf, Bool.or_false]
    · intro post hp
      unfold wX_takeIn_39
      rw [er, ea]
      refine ⟨ha6, nm_r e3 ⟨ha6, nm_r e ?_⟩⟩
      rw [eix]
      exact br_f (by decide) (br_f (by decide) (br_f (by decide) (br_t rfl ⟨hr3, ha6, hr3, nm_e ⟨hx, ha6, hx, nm_e hp⟩⟩)))
  · -- a name
    have hM := zp_mI (k := 2) hK e hro
    rcases zx_new (fa := fa) (kd := kd) (ro := ro) (nu := nu) (cn := cn) (sm := sm) (kn := vp_updL kn r Kn) (cl := cl) (ad := ad) (sd := sd) (ln := ln) (ll := ll) (tt := tt) hn hD ha (fun j z => hb j z.1) (hna 2 (nI w)) hM h3 with ⟨q1, q2⟩ | ⟨q1, q2⟩
    · refine ⟨cl, ad, sd, ln, ll, tt, ?_, ?_⟩
      · refine zr_takeE hr hw hX (zu_Le cl _).symm (zu_Le ad _).symm (zu_Le sd _).symm (zu_e ln _).symm (zu_e ll _).symm (zu_e tt _).symm
          (zr_Cn hK (by rw [e]; decide) hC) ⟨?_, h2, q1, ?_, ?_⟩ hO
        · rw [zp_mN hK (hm0 0 (by rw [e]; decide))]; exact h1
        · rw [zp_mN hK (hm0 4 (by rw [e]; decide))]; exact h4
        · rw [zp_fN hK (hm0 3 (by rw [e]; decide))]; exact h5
      · intro post hp
        unfold wX_takeIn_39
        rw [ea]
        refine ⟨ha6, nm_r e3 ⟨ha6, nm_r e ?_⟩⟩
        rw [eix]
        exact br_f (by decide) (br_f (by decide) (br_f (by decide) (br_f (by decide) (br_t rfl ⟨hx, q2 _ (br_t rfl hp)⟩))))
    · refine ⟨cl, ad, sd, upd ln (r * 8 + w) (nI a), ll, tt, ?_, ?_⟩
      · refine zr_takeE hr hw hX (zu_Le cl _).symm (zu_Le ad _).symm (zu_Le sd _).symm rfl (zu_e ll _).symm (zu_e tt _).symm
          (zr_Cn hK (by rw [e]; decide) hC) ⟨?_, h2, q1, ?_, ?_⟩ hO
        · rw [zp_mN hK (hm0 0 (by rw [e]; decide))]; exact h1
        · rw [zp_mN hK (hm0 4 (by rw [e]; decide))]; exact h4
        · rw [zp_fN hK (hm0 3 (by rw [e]; decide))]; exact h5
      · intro post hp
        unfold wX_takeIn_39
        rw [ea]
        refine ⟨ha6, nm_r e3 ⟨ha6, nm_r e ?_⟩⟩
        rw [eix]
        exact br_f (by decide) (br_f (by decide) (br_f (by decide) (br_f (by decide) (br_t rfl ⟨hx, q2 _ (br_f zn_10 ⟨hx, nm_e hp⟩)⟩))))
  · -- a count
    refine ⟨cl, ad, sd, ln, ll, upd tt (r * 8 + w) (tt (r * 8 + w) + nu a), ?_, ?_⟩
    · refine zr_takeE hr hw hX (zu_Le cl _).symm (zu_Le ad _).symm (zu_Le sd _).symm (zu_e ln _).symm (zu_e ll _).symm rfl
        (zr_Cn hK (by rw [e]; decide) hC) ⟨?_, h2, ?_, ?_, ?_⟩ hO
      · rw [zp_mN hK (hm0 0 (by rw [e]; decide))]; exact h1
      · rw [zp_mN hK (hm0 2 (by rw [e]; decide))]; exact h3
      · rw [zp_mN hK (hm0 4 (by rw [e]; decide))]; exact h4
      · rw [zp_fI hK hk e hro ha, h5]
    · intro post hp
      unfold wX_takeIn_39
      rw [ea]
      refine ⟨ha6, nm_r e3 ⟨ha6, nm_r e ?_⟩⟩
      rw [eix]
      exact br_f (by decide) (br_f (by decide) (br_f (by decide) (br_f (by decide) (br_f (by decide) (br_t rfl ⟨hx, ha6, hx, nm_e hp⟩)))))
  · -- a link
    have hM := zp_mI (k := 4) hK e hro
    rcases zx_new (fa := fa) (kd := kd) (ro := ro) (nu := nu) (cn := cn) (sm := sm) (kn := vp_updL kn r Kn) (cl := cl) (ad := ad) (sd := sd) (ln := ln) (ll := ll) (tt := tt) hn hD ha (fun j z => hb j z.1) (hna 4 (nI w)) hM h4 with ⟨q1, q2⟩ | ⟨q1, q2⟩
    · refine ⟨cl, ad, sd, ln, ll, tt, ?_, ?_⟩
      · refine zr_takeE hr hw hX (zu_Le cl _).symm (zu_Le ad _).symm (zu_Le sd _).symm (zu_e ln _).symm (zu_e ll _).symm (zu_e tt _).symm
          (zr_Cn hK (by rw [e]; decide) hC) ⟨?_, h2, ?_, q1, ?_⟩ hO
        · rw [zp_mN hK (hm0 0 (by rw [e]; decide))]; exact h1
        · rw [zp_mN hK (hm0 2 (by rw [e]; decide))]; exact h3
        · rw [zp_fN hK (hm0 3 (by rw [e]; decide))]; exact h5
      · intro post hp
        unfold wX_takeIn_39
        rw [ea]
        refine ⟨ha6, nm_r e3 ⟨ha6, nm_r e ?_⟩⟩
        rw [eix]
        exact br_f (by decide) (br_t (by decide) ⟨hx, q2 _ (br_t rfl hp)⟩)
    · refine ⟨cl, ad, sd, ln, upd ll (r * 8 + w) (nI a), tt, ?_, ?_⟩
      · refine zr_takeE hr hw hX (zu_Le cl _).symm (zu_Le ad _).symm (zu_Le sd _).symm (zu_e ln _).symm rfl (zu_e tt _).symm
          (zr_Cn hK (by rw [e]; decide) hC) ⟨?_, h2, ?_, q1, ?_⟩ hO
        · rw [zp_mN hK (hm0 0 (by rw [e]; decide))]; exact h1
        · rw [zp_mN hK (hm0 2 (by rw [e]; decide))]; exact h3
        · rw [zp_fN hK (hm0 3 (by rw [e]; decide))]; exact h5
      · intro post hp
        unfold wX_takeIn_39
        rw [ea]
        refine ⟨ha6, nm_r e3 ⟨ha6, nm_r e ?_⟩⟩
        rw [eix]
        exact br_f (by decide) (br_t (by decide) ⟨hx, q2 _ (br_f zn_10 ⟨hx, nm_e hp⟩)⟩)
def zs_m (sm st : Nat → Int32) (r a : Nat) : Nat → Int32 := if st a ≤ sm r then sm else upd sm r (st a)
theorem zx_take {r a : Nat} (fa : Int32) (hr : r < 3) (ha : a < n) (hn : n ≤ 60) (hD : zp_D st og n) (hb : ∀ b, zb_t (kn r) b = true → b < n) (hk : zb_t (kn r) a = false) (hA : zt_A n kd ro nu cn kw a) (hX : zr_X n kd ro nu st og cn kn cl ad sd ln ll tt) :
    ∃ (cl' ad' sd' : Nat → Int64) (ln' ll' tt' : Nat → Int32), zr_X n kd ro nu st og cn (vp_updL kn r (kn r ||| ((1 : Int64) <<< ((nI a).toInt64 &&& 63)))) cl' ad' sd' ln' ll' tt' ∧
      ∀ post : SX → Prop, post (fa, kd, ro, nu, st, og, cn, zs_m sm st r a, vp_updL kn r (kn r ||| ((1 : Int64) <<< ((nI a).toInt64 &&& 63))), cl', ad', sd', ln', ll', tt') → wpX_takeIn post (fa, kd, ro, nu, st, og, cn, sm, kn, cl, ad, sd, ln, ll, tt) (nI r) (nI a) := by
  have er : (nI r).toNatClampNeg = r := zn_cl (by omega)
  have ea : (nI a).toNatClampNeg = a := zn_cl (by omega)
  have ha6 : vp_in (nI a) 60 := zn_in (by omega) (by omega)
  have hr3 : vp_in (nI r) 3 := zn_in hr (by omega)
  obtain ⟨cl', ad', sd', ln', ll', tt', H1, H2⟩ := zx_39 (sm := zs_m sm st r a) fa hr ha hn hD hb hk hA hX rfl
  refine ⟨cl', ad', sd', ln', ll', tt', H1, fun post hp => ?_⟩
  have H3 := H2 post hp
  unfold wpX_takeIn
  dsimp only
  rw [er, ea]
  refine ⟨hr3, hr3, nm_e ⟨hr3, ha6, br_c (fun e => ?_) (fun e => ⟨ha6, hr3, nm_e ?_⟩)⟩⟩
  · have es : zs_m sm st r a = sm := if_pos e
    rw [es] at H3
    exact H3
  · have es : zs_m sm st r a = upd sm r (st a) := if_neg e
    rw [es] at H3
    exact H3
end
end
section
theorem zn_sL {s : Nat} (h : s < 62) : ¬ nI s + 1 ≤ nI s := by
  rw [nI_1]
  exact zn_lt (by omega) (by omega)
section
variable {n : Nat} {kd ro nu st og : Nat → Int32} {cn : Nat → Int64} {sm : Nat → Int32} {kn cl ad sd : Nat → Int64} {ln ll tt : Nat → Int32} {kw : Nat → Int64}
/-! ===== the table with a new action ===== -/
theorem zt_ext {r w : Nat} {k x : Int32} {c : Int64} (hT : zt_T n kd ro nu st og cn kw kn sm) (hr : r < 3) (hw : w < 8) (hn : n < 60) (hk : k = 0 ∨ k = 1 ∨ k = 2 ∨ k = 3 ∨ k = 4) (hx : k = 4 → x = -1 ∨ ∃ w, w < 8 ∧ x = nI w)
    (hc : k = 1 → ∀ b, zb_t c b = true ↔ zp_m kd ro (zb_t (kn r)) 0 (nI w) b) :
    zt_T (n + 1) (upd kd n k) (upd ro n (nI w)) (upd nu n x) (upd st n (sm r + 1)) (upd og n (nI r)) (vp_updL cn n c) (vp_updL kw n (kn r)) (vp_updL kn r (kn r ||| ((1 : Int64) <<< ((nI n).toInt64 &&& 63)))) (upd sm r (sm r + 1)) := by
  obtain ⟨h1, h2, h3, h4, h5, h6⟩ := hT
  obtain ⟨s, hs, es⟩ := h4 r hr
  have hle : ∀ j, j < 3 → sm j ≤ upd sm r (sm r + 1) j := by
    intro j hj
    by_cases e : j = r
    · subst e
      rw [pk_us, es, nI_1]
      exact zn_ge (by omega) (by omega)
    · rw [pk_un e]
      exact Int32.le_refl _
  have hnew : ∀ b, b < n → sm r + 1 = st b → nI r ≠ og b := by
    intro b hb e1 e2
    obtain ⟨j, hj, ej, hsj⟩ := h5 b hb
    have : r = j := zn_inj (by omega) (by omega) (e2.trans ej)
    subst this
    rw [← e1, es] at hsj
    exact zn_sL (by omega) hsj
  refine ⟨by omega, ?_, ?_, ?_, ?_, ?_⟩
  · intro a ha
    by_cases e : a = n
    · subst e
      unfold zt_A
      simp only [pk_us, pk_uLs]
      refine ⟨hk, ⟨w, hw, rfl⟩, hx, fun z b => ?_, fun b z => ?_⟩
      · rw [hc z b]
        unfold zp_m
        constructor
        · rintro ⟨z1, z2, z3⟩
          have := h3 r hr b z1
          rw [pk_un (by omega), pk_un (by omega)]
          exact ⟨z2, z3, z1⟩
        · rintro ⟨z2, z3, z1⟩
          have := h3 r hr b z1
          rw [pk_un (by omega)] at z2 z3
          exact ⟨z1, z2, z3⟩
      · have := h3 r hr b z
        omega
    · obtain ⟨g1, g2, g3, g4, g5⟩ := h2 a (by omega)
      unfold zt_A
      rw [pk_un e, pk_un e, pk_un e, pk_uLn e, pk_uLn e]
      refine ⟨g1, g2, g3, fun z b => ?_, fun b z => ?_⟩
      · rw [g4 z b]
        constructor
        · rintro ⟨z2, z3, z1⟩
          have := g5 b z1
          rw [pk_un (by omega), pk_un (by omega)]
          exact ⟨z2, z3, z1⟩
        · rintro ⟨z2, z3, z1⟩
          have := g5 b z1
          rw [pk_un (by omega)] at z2 z3
          exact ⟨z2, z3, z1⟩
      · have := g5 b z
        omega
  · intro r' hr' b z
    by_cases e : r' = r
    · subst e
      rw [pk_uLs, zb_ins _ (by omega)] at z
      rcases z with z | z
      · have := h3 r' hr' b z
        omega
      · omega
    · rw [pk_uLn e] at z
      have := h3 r' hr' b z
      omega
  · intro j hj
    by_cases e : j = r
    · subst e
      exact ⟨s + 1, by omega, by rw [pk_us, es, nI_1]⟩
    · obtain ⟨s', hs', es'⟩ := h4 j hj
      exact ⟨s', by omega, by rw [pk_un e, es']⟩
  · intro a ha
    by_cases e : a = n
    · subst e
      refine ⟨r, hr, pk_us, ?_⟩
      rw [pk_us, pk_us]
      exact Int32.le_refl _
    · obtain ⟨j, hj, ej, hsj⟩ := h5 a (by omega)
      refine ⟨j, hj, ?_, ?_⟩
      · rw [pk_un e, ej]
      · rw [pk_un e]
        exact Int32.le_trans hsj (hle j hj)
  · intro a b ha hb hne he
    by_cases ea : a = n
    · have eb : b ≠ n := fun z => hne (ea.trans z.symm)
      subst ea
      rw [pk_us, pk_un eb] at he
      rw [pk_us, pk_un eb]
      exact hnew b (by omega) he
    · by_cases eb : b = n
      · subst eb
        rw [pk_us, pk_un ea] at he
        rw [pk_us, pk_un ea]
        exact fun z => hnew a (by omega) he.symm z.symm
      · rw [pk_un ea, pk_un eb] at he
        rw [pk_un ea, pk_un eb]
        exact h6 a b (by omega) (by omega) hne he
/-! ===== the table when a replica learns an action ===== -/
theorem zt_lrn {r a : Nat} (hT : zt_T n kd ro nu st og cn kw kn sm) (hr : r < 3) (ha : a < n) :
    zt_T n kd ro nu st og cn kw (vp_updL kn r (kn r ||| ((1 : Int64) <<< ((nI a).toInt64 &&& 63)))) (zs_m sm st r a) := by
  obtain ⟨h1, h2, h3, h4, h5, h6⟩ := hT
  have hmono : ∀ j, j < 3 → sm j ≤ zs_m sm st r a j := by
    intro j hj
    unfold zs_m
    by_cases e : st a ≤ sm r
    · rw [if_pos e]; exact Int32.le_refl _
    · rw [if_neg e]
      by_cases e2 : j = r
      · subst e2
        rw [pk_us]
        exact Int32.le_of_lt (Int32.not_le.mp e)
      · rw [pk_un e2]; exact Int32.le_refl _
  refine ⟨h1, h2, ?_, ?_, ?_, h6⟩
  · intro r' hr' b z
    by_cases e : r' = r
    · subst e
      rw [pk_uLs, zb_ins _ (by omega)] at z
      rcases z with z | z
      · exact h3 r' hr' b z
      · omega
    · rw [pk_uLn e] at z
      exact h3 r' hr' b z
  · intro j hj
    unfold zs_m
    by_cases e : st a ≤ sm r
    · rw [if_pos e]; exact h4 j hj
    · rw [if_neg e]
      by_cases e2 : j = r
      · subst e2
        rw [pk_us]
        obtain ⟨j', hj', _, hsj⟩ := h5 a ha
        obtain ⟨s', hs', es'⟩ := h4 j' hj'
        obtain ⟨s, hs, es⟩ := h4 j hj
        rw [es] at e
        rw [es'] at hsj
        have hpos : ¬ st a < 0 := by
          intro z
          have h0 : (0 : Int32) ≤ nI s := nI_pos' (by omega)
          exact e (Int32.le_of_lt (Int32.lt_of_lt_of_le z h0))
        obtain ⟨t, ht, et⟩ := nI_of hpos
        rw [et] at hsj
        have := (nI_leI ht (show s' < 2 ^ 31 by omega)).mp hsj
        exact ⟨t, by omega, et⟩
      · rw [pk_un e2]; exact h4 j hj
  · intro b hb
    obtain ⟨j, hj, ej, hsj⟩ := h5 b hb
    exact ⟨j, hj, ej, Int32.le_trans hsj (hmono j hj)⟩
/-! ===== a new action, both sides ===== -/
theorem zx_full {post : Int32 → SX → Prop} {r k w x : Int32} (hn : n = 60) (hp : post (-3) (nI n, kd, ro, nu, st, og, cn, sm, kn, cl, ad, sd, ln, ll, tt)) : wpX_act post (nI n, kd, ro, nu, st, og, cn, sm, kn, cl, ad, sd, ln, ll, tt) r k w x := by
  subst hn
  unfold wpX_act
  exact br_f (nI_nlt (a := 60) (b := 60) (by omega) (by omega)) hp
theorem zy_full {post : Int32 → SY → Prop} {r k w x : Int32} (hn : n = 60) (hp : post (-3) (nI n, kd, ro, nu, st, og, kw, kn, sm)) : wY_act_57 post r k w x (nI n) kd ro nu st og kw kn sm := by
  subst hn
  unfold wY_act_57
  exact br_t rfl hp
theorem zx_a92 {post : Int32 → SX → Prop} {r : Nat} {k w x : Int32} {c : Int64} (hr : r < 3) (hn : n < 60) (hc : (k = 1 → vp_in (nI r * 8 + w) 24 ∧ c = ad (nI r * 8 + w).toNatClampNeg) ∧ (¬ k = 1 → c = 0))
    (hp : wX_act_92 post (nI r) (nI n) c (nI n) (nI n) (upd kd n k) (upd ro n w) (upd nu n x) (upd st n (sm r + 1)) (upd og n (nI r)) cn sm kn cl ad sd ln ll tt) : wpX_act post (nI n, kd, ro, nu, st, og, cn, sm, kn, cl, ad, sd, ln, ll, tt) (nI r) k w x := by
  have er : (nI r).toNatClampNeg = r := zn_cl (by omega)
  have en : (nI n).toNatClampNeg = n := zn_cl (by omega)
  have hi : vp_in (nI n) 60 := zn_in hn (by omega)
  have h3 : vp_in (nI r) 3 := zn_in hr (by omega)
  have h60 : nI n < 60 := nI_lt (a := n) (b := 60) hn (by omega)
  unfold wpX_act
  dsimp only
  rw [er, en]
  refine br_t h60 ⟨hi, nm_e ⟨hi, nm_e ⟨hi, nm_e ⟨h3, hi, nm_e ⟨hi, nm_e (br_c (fun e => ?_) (fun e => ?_))⟩⟩⟩⟩⟩
  · have hc1 := hc.1 e
    rw [hc1.2] at hp
    exact ⟨hc1.1, hp⟩
  · rw [hc.2 e] at hp
    exact hp
theorem za_act {r w : Nat} {k x : Int32} (hT : zt_T n kd ro nu st og cn kw kn sm) (hX : zr_X n kd ro nu st og cn kn cl ad sd ln ll tt) (hr : r < 3) (hw : w < 8) (hk : k = 0 ∨ k = 1 ∨ k = 2 ∨ k = 3 ∨ k = 4) (hx : k = 4 → x = -1 ∨ ∃ w, w < 8 ∧ x = nI w) :
    ∃ (y : Int32) (u' : SX) (v' : SY), zz_R u' v' ∧ (∀ post : Int32 → SX → Prop, post y u' → wpX_act post (nI n, kd, ro, nu, st, og, cn, sm, kn, cl, ad, sd, ln, ll, tt) (nI r) k (nI w) x) ∧ (∀ post : Int32 → SY → Prop, post y v' → wY_act_57 post (nI r) k (nI w) x (nI n) kd ro nu st og kw kn sm) := by
  by_cases hn : n = 60
  · exact ⟨-3, (nI n, kd, ro, nu, st, og, cn, sm, kn, cl, ad, sd, ln, ll, tt), (nI n, kd, ro, nu, st, og, kw, kn, sm), zz_in hT hX, fun post hp => zx_full hn hp, fun post hp => zy_full hn hp⟩
  · have hn6 : n < 60 := by have := hT.1; omega
    have hex : ∃ c : Int64, (k = 1 → c = ad (r * 8 + w)) ∧ (¬ k = 1 → c = 0) := by
      by_cases e : k = 1
      · exact ⟨_, fun _ => rfl, fun z => absurd e z⟩
      · exact ⟨_, fun z => absurd z e, fun _ => rfl⟩
    obtain ⟨c, hc1, hc0⟩ := hex
    have hT' := zt_ext (x := x) (c := c) hT hr hw hn6 hk hx (fun z => by rw [hc1 z]; exact ((hX r hr).2 w hw).1)
    have hX' := zr_ext hX hT.2.2.1 k (nI w) x (sm r + 1) (nI r) c
    have hK := hT.2.2.1 r hr
    have hkn : zb_t (kn r) n = false := by
      apply Bool.eq_false_iff.mpr
      intro z
      have := hK n z
      omega
    obtain ⟨s, hs, es⟩ := hT.2.2.2.1 r hr
    obtain ⟨cl', ad', sd', ln', ll', tt', H1, H2⟩ := zx_take (sm := sm) (nI (n + 1)) hr (Nat.lt_succ_self n) hT'.1 hT'.2.2.2.2.2 (fun b z => by have := hK b z; omega) hkn (hT'.2.1 n (Nat.lt_succ_self n)) hX'
    have esm : zs_m sm (upd st n (sm r + 1)) r n = upd sm r (sm r + 1) := by
      unfold zs_m
      rw [pk_us, if_neg]
      rw [es]
      exact zn_sL (by omega)
    rw [esm] at H2
    refine ⟨nI n, _, _, zz_in hT' H1, fun post hp => ?_, fun post hp => zy_act hr hn6 hp⟩
    have en : (nI n).toNatClampNeg = n := zn_cl (by omega)
    refine zx_a92 (c := c) hr hn6 ⟨fun z => ?_, hc0⟩ ?_
    · rw [zn_ix, zn_cl (by omega)]
      exact ⟨zn_in (by omega) (by omega), hc1 z⟩
    · unfold wX_act_92
      rw [en]
      refine ⟨zn_in hn6 (by omega), nm_e (nm_r (nI_1 n) (H2 _ hp))⟩
end
end
section
section
variable {n : Nat} {kd ro nu st og : Nat → Int32} {cn : Nat → Int64} {kw : Nat → Int64}
theorem zl_done {post : Int32 → SY → Prop} {kn : Nat → Int64} {sm : Nat → Int32} {t f m x : Int32} (hn : n ≤ 60) (hm : m ≤ x) (hp : post x (nI n, kd, ro, nu, st, og, kw, kn, sm)) : ∀ d i, i + d = n → wY_learnSome_32 post t f m (nI n) (d + 1) x (nI i) kd ro nu st og kw kn sm := by
  intro d
  induction d with
  | zero =>
    intro i hi
    exact br_t (zn_ge (by omega) (by omega)) hp
  | succ d ih =>
    intro i hi
    rw [wY_learnSome_32]
    refine br_f (zn_lt (by omega) (by omega)) (br_t hm (nm_r (nI_1 i) ?_))
    exact ih (i + 1) (by omega)
theorem zl_ys {post : Int32 → SY → Prop} {kn : Nat → Int64} {sm : Nat → Int32} {t f i d : Nat} {m x : Int32} (ht : t < 3) (hf : f < 3) (hn : n ≤ 60) (hi : i < n) (hm : ¬ m ≤ x) (h1 : zb_t (kn f) i = true) (h2 : zb_t (kn t) i = false)
    (hp : wY_learnSome_32 post (nI t) (nI f) m (nI n) d (x + 1) (nI (i + 1)) kd ro nu st og kw (vp_updL kn t (kn t ||| ((1 : Int64) <<< ((nI i).toInt64 &&& 63)))) (zs_m sm st t i)) : wY_learnSome_32 post (nI t) (nI f) m (nI n) (d + 1) x (nI i) kd ro nu st og kw kn sm := by
  have et : (nI t).toNatClampNeg = t := zn_cl (by omega)
  have ef : (nI f).toNatClampNeg = f := zn_cl (by omega)
  have ei : (nI i).toNatClampNeg = i := zn_cl (by omega)
  have hi6 : vp_in (nI i) 60 := zn_in (by omega) (by omega)
  have ht3 : vp_in (nI t) 3 := zn_in ht (by omega)
  have hf3 : vp_in (nI f) 3 := zn_in hf (by omega)
  rw [wY_learnSome_32]
  dsimp only
  rw [et, ef, ei]
  refine br_f (zn_lt (by omega) (by omega)) (br_f hm ⟨hf3, zy_in _ (by omega) (fun z1 => br_f zn_10 ⟨ht3, zy_in _ (by omega) (fun z2 => ?_) (fun z2 => ?_)⟩) (fun z1 => ?_)⟩)
  · rw [h2] at z2; exact nomatch z2
  · refine br_t rfl ⟨ht3, ht3, nm_e ⟨hi6, ht3, br_c (fun e => ?_) (fun e => ⟨hi6, ht3, nm_e ?_⟩)⟩⟩
    · have es : zs_m sm st t i = sm := if_pos e
      rw [es] at hp
      exact nm_e (nm_r (nI_1 i) hp)
    · have es : zs_m sm st t i = upd sm t (st i) := if_neg e
      rw [es] at hp
      exact nm_e (nm_r (nI_1 i) hp)
  · rw [h1] at z1; exact nomatch z1
theorem zl_yn {post : Int32 → SY → Prop} {kn : Nat → Int64} {sm : Nat → Int32} {t f i d : Nat} {m x : Int32} (ht : t < 3) (hf : f < 3) (hn : n ≤ 60) (hi : i < n) (hm : ¬ m ≤ x) (h : ¬ (zb_t (kn f) i = true ∧ zb_t (kn t) i = false))
    (hp : wY_learnSome_32 post (nI t) (nI f) m (nI n) d x (nI (i + 1)) kd ro nu st og kw kn sm) : wY_learnSome_32 post (nI t) (nI f) m (nI n) (d + 1) x (nI i) kd ro nu st og kw kn sm := by
  have et : (nI t).toNatClampNeg = t := zn_cl (by omega)
  have ef : (nI f).toNatClampNeg = f := zn_cl (by omega)
  have ei : (nI i).toNatClampNeg = i := zn_cl (by omega)
  have ht3 : vp_in (nI t) 3 := zn_in ht (by omega)
  have hf3 : vp_in (nI f) 3 := zn_in hf (by omega)
  rw [wY_learnSome_32]
  dsimp only
  rw [et, ef, ei]
  refine br_f (zn_lt (by omega) (by omega)) (br_f hm ⟨hf3, zy_in _ (by omega) (fun z1 => br_f zn_10 ⟨ht3, zy_in _ (by omega) (fun z2 => ?_) (fun z2 => ?_)⟩) (fun z1 => ?_)⟩)
  · exact br_f zn_10 (nm_r (nI_1 i) hp)
  · exact absurd ⟨z1, z2⟩ h
  · exact br_t rfl (nm_r (nI_1 i) hp)
theorem zl_lp {t f : Nat} (ht : t < 3) (hf : f < 3) (hne : t ≠ f) (m : Int32) (fr : Int64) : ∀ d i x sm kn cl ad sd ln ll tt, i + d = n → zt_T n kd ro nu st og cn kw kn sm → zr_X n kd ro nu st og cn kn cl ad sd ln ll tt →
    (∀ j, i ≤ j → j < 64 → (zb_t fr j = true ↔ zb_t (kn f) j = true ∧ zb_t (kn t) j = false)) →
    ∃ (y : Int32) (u' : SX) (v' : SY), zz_R u' v' ∧ (∀ post : Int32 → SX → Prop, post y u' → wX_learnSome_49 post (nI t) m fr (d + 1) x (nI i) (nI n) kd ro nu st og cn sm kn cl ad sd ln ll tt) ∧ (∀ post : Int32 → SY → Prop, post y v' → wY_learnSome_32 post (nI t) (nI f) m (nI n) (d + 1) x (nI i) kd ro nu st og kw kn sm) := by
  intro d
  induction d with
  | zero =>
    intro i x sm kn cl ad sd ln ll tt hi hT hX hF
    have hle : nI n ≤ nI i := zn_ge (by omega) (by have := hT.1; omega)
    exact ⟨x, (nI n, kd, ro, nu, st, og, cn, sm, kn, cl, ad, sd, ln, ll, tt), (nI n, kd, ro, nu, st, og, kw, kn, sm), zz_in hT hX, fun post hp => br_t hle hp, fun post hp => br_t hle hp⟩
  | succ d ih =>
    intro i x sm kn cl ad sd ln ll tt hi hT hX hF
    have hn := hT.1
    have hlt : ¬ nI n ≤ nI i := zn_lt (by omega) (by omega)
    by_cases hm : m ≤ x
    · exact ⟨x, (nI n, kd, ro, nu, st, og, cn, sm, kn, cl, ad, sd, ln, ll, tt), (nI n, kd, ro, nu, st, og, kw, kn, sm), zz_in hT hX, fun post hp => br_f hlt (br_t hm hp), fun post hp => zl_done hn hm hp (d + 1) i hi⟩
    · by_cases hz : zb_t fr i = true
      · obtain ⟨z1, z2⟩ := (hF i (Nat.le_refl i) (by omega)).mp hz
        obtain ⟨cl', ad', sd', ln', ll', tt', H1, H2⟩ := zx_take (sm := sm) (a := i) (nI n) ht (by omega) hn hT.2.2.2.2.2 (hT.2.2.1 t ht) z2 (hT.2.1 i (by omega)) hX
        have hT' := zt_lrn (a := i) hT ht (by omega)
        obtain ⟨y, u', v', R, Q1, Q2⟩ := ih (i + 1) (x + 1) _ _ cl' ad' sd' ln' ll' tt' (by omega) hT' H1 (fun j hj hj6 => by
          rw [pk_uLn (Ne.symm hne), pk_uLs, hF j (by omega) hj6]
          have e : zb_t (kn t ||| ((1 : Int64) <<< ((nI i).toInt64 &&& 63))) j = zb_t (kn t) j := by
            rw [zb_or, zb_one (by omega), decide_eq_false (by omega), Bool.or_false]
          rw [e])
        refine ⟨y, u', v', R, fun post hp => ?_, fun post hp => zl_ys ht hf hn (by omega) hm z1 z2 (Q2 post hp)⟩
        rw [wX_learnSome_49]
        exact br_f hlt (br_f hm (br_t ((zb_ush fr (by omega)).mpr hz) (H2 _ (nm_e (nm_r (nI_1 i) (Q1 post hp))))))
      · obtain ⟨y, u', v', R, Q1, Q2⟩ := ih (i + 1) x sm kn cl ad sd ln ll tt (by omega) hT hX (fun j hj hj6 => hF j (by omega) hj6)
        refine ⟨y, u', v', R, fun post hp => ?_, fun post hp => zl_yn ht hf hn (by omega) hm (fun z => hz ((hF i (Nat.le_refl i) (by omega)).mpr z)) (Q2 post hp)⟩
        rw [wX_learnSome_49]
        exact br_f hlt (br_f hm (br_f (fun z => hz ((zb_ush fr (by omega)).mp z)) (nm_r (nI_1 i) (Q1 post hp))))
theorem zl_some {sm : Nat → Int32} {kn cl ad sd : Nat → Int64} {ln ll tt : Nat → Int32} (hT : zt_T n kd ro nu st og cn kw kn sm) (hX : zr_X n kd ro nu st og cn kn cl ad sd ln ll tt) (a b m : Int32) :
    ∃ (y : Int32) (u' : SX) (v' : SY), zz_R u' v' ∧ (∀ post : Int32 → SX → Prop, post y u' → wpX_learnSome post (nI n, kd, ro, nu, st, og, cn, sm, kn, cl, ad, sd, ln, ll, tt) a b m) ∧ (∀ post : Int32 → SY → Prop, post y v' → wpY_learnSome post (nI n, kd, ro, nu, st, og, kw, kn, sm) a b m) := by
  rcases zx_rep a with h1 | ⟨t, ht, rfl⟩
  · refine ⟨-1, (nI n, kd, ro, nu, st, og, cn, sm, kn, cl, ad, sd, ln, ll, tt), (nI n, kd, ro, nu, st, og, kw, kn, sm), zz_in hT hX, fun post hp => ?_, fun post hp => ?_⟩
    · unfold wpX_learnSome
      exact zx_R1 h1 (br_f zn_10 hp)
    · unfold wpY_learnSome
      exact zy_R1 h1 (br_f zn_10 hp)
  rcases zx_rep b with h2 | ⟨f, hf, rfl⟩
  · refine ⟨-1, (nI n, kd, ro, nu, st, og, cn, sm, kn, cl, ad, sd, ln, ll, tt), (nI n, kd, ro, nu, st, og, kw, kn, sm), zz_in hT hX, fun post hp => ?_, fun post hp => ?_⟩
    · unfold wpX_learnSome
      exact zx_R0 ht (br_t rfl (zx_R1 h2 (br_f zn_10 hp)))
    · unfold wpY_learnSome
      exact zy_R0 ht (br_t rfl (zy_R1 h2 (br_f zn_10 hp)))
  by_cases e : t = f
  · subst e
    refine ⟨-5, (nI n, kd, ro, nu, st, og, cn, sm, kn, cl, ad, sd, ln, ll, tt), (nI n, kd, ro, nu, st, og, kw, kn, sm), zz_in hT hX, fun post hp => ?_, fun post hp => ?_⟩
    · unfold wpX_learnSome
      exact zx_R0 ht (br_t rfl (zx_R0 hf (br_t rfl (br_t rfl hp))))
    · unfold wpY_learnSome
      exact zy_R0 ht (br_t rfl (zy_R0 hf (br_t rfl (br_t rfl hp))))
  · have hne : ¬ nI t = nI f := fun z => e (zn_inj (by omega) (by omega) z)
    obtain ⟨y, u', v', R, Q1, Q2⟩ := zl_lp ht hf e m (kn f &&& (kn t ^^^ (-1))) n 0 0 sm kn cl ad sd ln ll tt (by omega) hT hX (fun j _ hj => by
      rw [zb_and, zb_not, Bool.and_eq_true, Bool.and_eq_true, decide_eq_true_iff, Bool.not_eq_true']
      exact ⟨fun z => ⟨z.1, z.2.2⟩, fun z => ⟨z.1, hj, z.2⟩⟩)
    refine ⟨y, u', v', R, fun post hp => ?_, fun post hp => ?_⟩
    · unfold wpX_learnSome
      dsimp only
      rw [zn_cl (a := t) (by omega), zn_cl (a := f) (by omega)]
      exact zx_R0 ht (br_t rfl (zx_R0 hf (br_t rfl (br_f hne ⟨zn_in hf (by omega), zn_in ht (by omega), nm_e ⟨n + 1, Q1 post hp⟩⟩))))
    · unfold wpY_learnSome
      exact zy_R0 ht (br_t rfl (zy_R0 hf (br_t rfl (br_f hne ⟨n + 1, Q2 post hp⟩))))
end
end
section
section
variable {n : Nat} {kd ro nu st og : Nat → Int32} {cn : Nat → Int64} {sm : Nat → Int32} {kn cl ad sd : Nat → Int64} {ln ll tt : Nat → Int32} {kw : Nat → Int64}
/-! ===== questions: one answer for both ===== -/
theorem zx_hid {post : Int32 → Prop} {r w : Nat} {x : Int32} (hr : r < 3) (hw : w < 8) (hx : ∀ post : Int32 → Prop, post x → wpX_isThere post (nI n, kd, ro, nu, st, og, cn, sm, kn, cl, ad, sd, ln, ll, tt) (nI r) (nI w)) (h0 : x = 0 → post 1) (h1 : ¬ x = 0 → post 0) : wpX_hidden post (nI n, kd, ro, nu, st, og, cn, sm, kn, cl, ad, sd, ln, ll, tt) (nI r) (nI w) := by
  unfold wpX_hidden
  exact zx_R0 hr (br_t rfl (zx_W0 hw (br_t rfl (hx _ (br_c h0 h1)))))
theorem zx_hid1 {post : Int32 → Prop} {a b : Int32} (h : zx_bR a) (hp : post 1) : wpX_hidden post (nI n, kd, ro, nu, st, og, cn, sm, kn, cl, ad, sd, ln, ll, tt) a b := by
  unfold wpX_hidden
  exact zx_R1 h (br_f zn_10 hp)
theorem zx_hid2 {post : Int32 → Prop} {r : Nat} {b : Int32} (hr : r < 3) (h : zx_bW b) (hp : post 1) : wpX_hidden post (nI n, kd, ro, nu, st, og, cn, sm, kn, cl, ad, sd, ln, ll, tt) (nI r) b := by
  unfold wpX_hidden
  exact zx_R0 hr (br_t rfl (zx_W1 h (br_f zn_10 hp)))
theorem zq_name (hT : zt_T n kd ro nu st og cn kw kn sm) (hX : zr_X n kd ro nu st og cn kn cl ad sd ln ll tt) (a b : Int32) :
    ∃ x : Int32, (∀ post : Int32 → Prop, post x → wpX_nameOf post (nI n, kd, ro, nu, st, og, cn, sm, kn, cl, ad, sd, ln, ll, tt) a b) ∧ (∀ post : Int32 → Prop, post x → wpY_nameOf post (nI n, kd, ro, nu, st, og, kw, kn, sm) a b) := by
  rcases zx_rep a with h1 | ⟨r, hr, rfl⟩
  · refine ⟨0, fun post hp => ?_, fun post hp => ?_⟩
    · unfold wpX_nameOf
      exact zx_hid1 h1 (br_f zn_10 hp)
    · unfold wpY_nameOf
      exact zy_there1 h1 (br_t rfl hp)
  rcases zx_row b with h2 | ⟨w, hw, rfl⟩
  · refine ⟨0, fun post hp => ?_, fun post hp => ?_⟩
    · unfold wpX_nameOf
      exact zx_hid2 hr h2 (br_f zn_10 hp)
    · unfold wpY_nameOf
      exact zy_there2 hr h2 (br_t rfl hp)
  obtain ⟨x, h01, hx, hy⟩ := zq_there hT hX hr hw
  rcases h01 with rfl | rfl
  · refine ⟨0, fun post hp => ?_, fun post hp => ?_⟩
    · unfold wpX_nameOf
      exact zx_hid hr hw hx (fun _ => br_f zn_10 hp) (fun z => absurd rfl z)
    · unfold wpY_nameOf
      exact hy _ (br_t rfl hp)
  have hL := ((hX r hr).2 w hw).2.2.1
  have hix : vp_in (nI (r * 8 + w)) 24 := zn_in (by omega) (by omega)
  have eix : (nI (r * 8 + w)).toNatClampNeg = r * 8 + w := zn_cl (by omega)
  have hn := hT.1
  rcases (show _ ∨ _ from hL) with ⟨e, _⟩ | ⟨b, e, hb, _⟩
  · refine ⟨0, fun post hp => ?_, fun post hp => ?_⟩
    · unfold wpX_nameOf
      dsimp only
      rw [zn_ix, eix]
      exact zx_hid hr hw hx (fun z => absurd z zn_10) (fun _ => br_t rfl ⟨hix, nm_r e (br_f (by decide) hp)⟩)
    · unfold wpY_nameOf
      refine hy _ (br_f zn_10 (zy_last hr hn hT.2.2.2.2.2 (hT.2.2.1 r hr) hL ?_))
      rw [e]
      exact br_f (by decide) hp
  · have hbn := hT.2.2.1 r hr b hb.1
    have eb : (nI b).toNatClampNeg = b := zn_cl (by omega)
    have hb6 : vp_in (nI b) 60 := zn_in (by omega) (by omega)
    refine ⟨nu b, fun post hp => ?_, fun post hp => ?_⟩
    · unfold wpX_nameOf
      dsimp only
      rw [zn_ix, eix]
      refine zx_hid hr hw hx (fun z => absurd z zn_10) (fun _ => br_t rfl ⟨hix, nm_r e ?_⟩)
      rw [eb]
      exact br_t (nI_pos' (by omega)) ⟨hb6, hp⟩
    · unfold wpY_nameOf
      refine hy _ (br_f zn_10 (zy_last hr hn hT.2.2.2.2.2 (hT.2.2.1 r hr) hL ?_))
      rw [e, eb]
      exact br_t (nI_pos' (by omega)) ⟨hb6, hp⟩
theorem zq_count (hT : zt_T n kd ro nu st og cn kw kn sm) (hX : zr_X n kd ro nu st og cn kn cl ad sd ln ll tt) (a b : Int32) :
    ∃ x : Int32, (∀ post : Int32 → Prop, post x → wpX_countOf post (nI n, kd, ro, nu, st, og, cn, sm, kn, cl, ad, sd, ln, ll, tt) a b) ∧ (∀ post : Int32 → Prop, post x → wpY_countOf post (nI n, kd, ro, nu, st, og, kw, kn, sm) a b) := by
  rcases zx_rep a with h1 | ⟨r, hr, rfl⟩
  · refine ⟨0, fun post hp => ?_, fun post hp => ?_⟩
    · unfold wpX_countOf
      exact zx_hid1 h1 (br_f zn_10 hp)
    · unfold wpY_countOf
      exact zy_there1 h1 (br_t rfl hp)
  rcases zx_row b with h2 | ⟨w, hw, rfl⟩
  · refine ⟨0, fun post hp => ?_, fun post hp => ?_⟩
    · unfold wpX_countOf
      exact zx_hid2 hr h2 (br_f zn_10 hp)
    · unfold wpY_countOf
      exact zy_there2 hr h2 (br_t rfl hp)
  obtain ⟨x, h01, hx, hy⟩ := zq_there hT hX hr hw
  rcases h01 with rfl | rfl
  · refine ⟨0, fun post hp => ?_, fun post hp => ?_⟩
    · unfold wpX_countOf
      exact zx_hid hr hw hx (fun _ => br_f zn_10 hp) (fun z => absurd rfl z)
    · unfold wpY_countOf
      exact hy _ (br_t rfl hp)
  have hS := ((hX r hr).2 w hw).2.2.2.2
  have hix : vp_in (nI (r * 8 + w)) 24 := zn_in (by omega) (by omega)
  have eix : (nI (r * 8 + w)).toNatClampNeg = r * 8 + w := zn_cl (by omega)
  refine ⟨tt (r * 8 + w), fun post hp => ?_, fun post hp => ?_⟩
  · unfold wpX_countOf
    dsimp only
    rw [zn_ix, eix]
    exact zx_hid hr hw hx (fun z => absurd z zn_10) (fun _ => br_t rfl ⟨hix, hp⟩)
  · unfold wpY_countOf
    rw [hS] at hp
    exact hy _ (br_f zn_10 ⟨n + 1, zy_cnl hr hT.1 hp n 0 0 (by omega) rfl⟩)
theorem zx_bm1 : zx_bW (-1) := Or.inl (by decide)
theorem zq_link (hT : zt_T n kd ro nu st og cn kw kn sm) (hX : zr_X n kd ro nu st og cn kn cl ad sd ln ll tt) (a b : Int32) :
    ∃ x : Int32, (∀ post : Int32 → Prop, post x → wpX_linkOf post (nI n, kd, ro, nu, st, og, cn, sm, kn, cl, ad, sd, ln, ll, tt) a b) ∧ (∀ post : Int32 → Prop, post x → wpY_linkOf post (nI n, kd, ro, nu, st, og, kw, kn, sm) a b) := by
  rcases zx_rep a with h1 | ⟨r, hr, rfl⟩
  · refine ⟨-1, fun post hp => ?_, fun post hp => ?_⟩
    · unfold wpX_linkOf
      exact zx_hid1 h1 (br_f zn_10 hp)
    · unfold wpY_linkOf
      exact zy_there1 h1 (br_t rfl hp)
  rcases zx_row b with h2 | ⟨w, hw, rfl⟩
  · refine ⟨-1, fun post hp => ?_, fun post hp => ?_⟩
    · unfold wpX_linkOf
      exact zx_hid2 hr h2 (br_f zn_10 hp)
    · unfold wpY_linkOf
      exact zy_there2 hr h2 (br_t rfl hp)
  obtain ⟨x, h01, hx, hy⟩ := zq_there hT hX hr hw
  rcases h01 with rfl | rfl
  · refine ⟨-1, fun post hp => ?_, fun post hp => ?_⟩
    · unfold wpX_linkOf
      exact zx_hid hr hw hx (fun _ => br_f zn_10 hp) (fun z => absurd rfl z)
    · unfold wpY_linkOf
      exact hy _ (br_t rfl hp)
  have hL := ((hX r hr).2 w hw).2.2.2.1
  have hix : vp_in (nI (r * 8 + w)) 24 := zn_in (by omega) (by omega)
  have eix : (nI (r * 8 + w)).toNatClampNeg = r * 8 + w := zn_cl (by omega)
  have hn := hT.1
  rcases (show _ ∨ _ from hL) with ⟨e, _⟩ | ⟨b, e, hb, _⟩
  · refine ⟨-1, fun post hp => ?_, fun post hp => ?_⟩
    · unfold wpX_linkOf
      dsimp only
      rw [zn_ix, eix]
      exact zx_hid hr hw hx (fun z => absurd z zn_10) (fun _ => br_t rfl ⟨hix, nm_r e (br_t (by decide) hp)⟩)
    · unfold wpY_linkOf
      refine hy _ (br_f zn_10 (zy_last hr hn hT.2.2.2.2.2 (hT.2.2.1 r hr) hL ?_))
      rw [e]
      exact br_t (by decide) hp
  · have hbn := hT.2.2.1 r hr b hb.1
    have eb : (nI b).toNatClampNeg = b := zn_cl (by omega)
    have hb6 : vp_in (nI b) 60 := zn_in (by omega) (by omega)
    have hb0 : ¬ nI b < 0 := nI_pos (by omega)
    rcases (hT.2.1 b hbn).2.2.1 hb.2.1 with ev | ⟨w2, hw2, ev⟩
    · refine ⟨-1, fun post hp => ?_, fun post hp => ?_⟩
      · unfold wpX_linkOf
        dsimp only
        rw [zn_ix, eix]
        refine zx_hid hr hw hx (fun z => absurd z zn_10) (fun _ => br_t rfl ⟨hix, nm_r e ?_⟩)
        rw [eb, ev]
        exact br_f hb0 ⟨hb6, br_f (by decide) hp⟩
      · unfold wpY_linkOf
        refine hy _ (br_f zn_10 (zy_last hr hn hT.2.2.2.2.2 (hT.2.2.1 r hr) hL ?_))
        rw [e, eb, ev]
        exact br_f hb0 ⟨hb6, zy_there2 hr zx_bm1 (br_t rfl hp)⟩
    · obtain ⟨x2, h02, hx2, hy2⟩ := zq_there hT hX hr hw2
      rcases h02 with rfl | rfl
      · refine ⟨-1, fun post hp => ?_, fun post hp => ?_⟩
        · unfold wpX_linkOf
          dsimp only
          rw [zn_ix, eix]
          refine zx_hid hr hw hx (fun z => absurd z zn_10) (fun _ => br_t rfl ⟨hix, nm_r e ?_⟩)
          rw [eb, ev]
          exact br_f hb0 ⟨hb6, br_t (nI_pos' (by omega)) ⟨hb6, hx2 _ (br_t rfl hp)⟩⟩
        · unfold wpY_linkOf
          refine hy _ (br_f zn_10 (zy_last hr hn hT.2.2.2.2.2 (hT.2.2.1 r hr) hL ?_))
          rw [e, eb, ev]
          exact br_f hb0 ⟨hb6, hy2 _ (br_t rfl hp)⟩
      · refine ⟨nI w2, fun post hp => ?_, fun post hp => ?_⟩
        · unfold wpX_linkOf
          dsimp only
          rw [zn_ix, eix]
          refine zx_hid hr hw hx (fun z => absurd z zn_10) (fun _ => br_t rfl ⟨hix, nm_r e ?_⟩)
          rw [eb, ev]
          exact br_f hb0 ⟨hb6, br_t (nI_pos' (by omega)) ⟨hb6, hx2 _ (br_f zn_10 ⟨hb6, hp⟩)⟩⟩
        · unfold wpY_linkOf
          refine hy _ (br_f zn_10 (zy_last hr hn hT.2.2.2.2.2 (hT.2.2.1 r hr) hL ?_))
          rw [e, eb, ev]
          exact br_f hb0 ⟨hb6, hy2 _ (br_f zn_10 ⟨hb6, hp⟩)⟩
/-! ===== counted loops ===== -/
theorem zq_rows {r : Nat} (hT : zt_T n kd ro nu st og cn kw kn sm) (hX : zr_X n kd ro nu st og cn kn cl ad sd ln ll tt) (hr : r < 3) : ∀ d i (x : Int32), i + d = 8 →
    ∃ y : Int32, (∀ post : Int32 → Prop, post y → wX_rows_13 post (nI r) (nI n) kd ro nu st og cn sm kn cl ad sd ln ll tt (d + 1) x (nI i)) ∧ (∀ post : Int32 → Prop, post y → wY_rows_14 post (nI r) (nI n) kd ro nu st og kw kn sm (d + 1) x (nI i)) := by
  intro d
  induction d with
  | zero =>
    intro i x hi
    have h : (8 : Int32) ≤ nI i := nI_le (a := 8) (by omega) (by omega)
    exact ⟨x, fun post hp => br_t h hp, fun post hp => br_t h hp⟩
  | succ d ih =>
    intro i x hi
    have h : ¬ (8 : Int32) ≤ nI i := nI_ge (b := 8) (by omega) (by omega)
    obtain ⟨t, h01, hx, hy⟩ := zq_there hT hX hr (show i < 8 by omega)
    rcases h01 with rfl | rfl
    · obtain ⟨y, Q1, Q2⟩ := ih (i + 1) x (by omega)
      refine ⟨y, fun post hp => ?_, fun post hp => ?_⟩
      · rw [wX_rows_13]
        exact br_f h (hx _ (br_t rfl (nm_r (nI_1 i) (Q1 post hp))))
      · rw [wY_rows_14]
        exact br_f h (hy _ (br_t rfl (nm_r (nI_1 i) (Q2 post hp))))
    · obtain ⟨y, Q1, Q2⟩ := ih (i + 1) (x + 1) (by omega)
      refine ⟨y, fun post hp => ?_, fun post hp => ?_⟩
      · rw [wX_rows_13]
        exact br_f h (hx _ (br_f zn_10 (nm_e (nm_r (nI_1 i) (Q1 post hp)))))
      · rw [wY_rows_14]
        exact br_f h (hy _ (br_f zn_10 (nm_e (nm_r (nI_1 i) (Q2 post hp)))))
theorem zq_sum {r : Nat} (hT : zt_T n kd ro nu st og cn kw kn sm) (hX : zr_X n kd ro nu st og cn kn cl ad sd ln ll tt) : ∀ d i (x : Int32), i + d = 8 →
    ∃ y : Int32, (∀ post : Int32 → Prop, post y → wX_sum_13 post (nI r) (nI n) kd ro nu st og cn sm kn cl ad sd ln ll tt (d + 1) x (nI i)) ∧ (∀ post : Int32 → Prop, post y → wY_sum_14 post (nI r) (nI n) kd ro nu st og kw kn sm (d + 1) x (nI i)) := by
  intro d
  induction d with
  | zero =>
    intro i x hi
    have h : (8 : Int32) ≤ nI i := nI_le (a := 8) (by omega) (by omega)
    exact ⟨x, fun post hp => br_t h hp, fun post hp => br_t h hp⟩
  | succ d ih =>
    intro i x hi
    have h : ¬ (8 : Int32) ≤ nI i := nI_ge (b := 8) (by omega) (by omega)
    obtain ⟨c, hx, hy⟩ := zq_count hT hX (nI r) (nI i)
    obtain ⟨y, Q1, Q2⟩ := ih (i + 1) (x + c) (by omega)
    refine ⟨y, fun post hp => ?_, fun post hp => ?_⟩
    · rw [wX_sum_13]
      exact br_f h (hx _ (nm_e (nm_r (nI_1 i) (Q1 post hp))))
    · rw [wY_sum_14]
      exact br_f h (hy _ (nm_e (nm_r (nI_1 i) (Q2 post hp))))
theorem zq_known {r : Nat} (hn : n ≤ 60) (hr : r < 3) : ∀ d i (x : Int32), i + d = n →
    ∃ y : Int32, (∀ post : Int32 → Prop, post y → wX_known_13 post (nI r) (nI n) kd ro nu st og cn sm kn cl ad sd ln ll tt (d + 1) x (nI i)) ∧ (∀ post : Int32 → Prop, post y → wY_known_14 post (nI r) (nI n) kd ro nu st og kw kn sm (d + 1) x (nI i)) := by
  intro d
  induction d with
  | zero =>
    intro i x hi
    have h : nI n ≤ nI i := zn_ge (by omega) (by omega)
    exact ⟨x, fun post hp => br_t h hp, fun post hp => br_t h hp⟩
  | succ d ih =>
    intro i x hi
    have h : ¬ nI n ≤ nI i := zn_lt (by omega) (by omega)
    have er : (nI r).toNatClampNeg = r := zn_cl (by omega)
    have h3 : vp_in (nI r) 3 := zn_in hr (by omega)
    by_cases z : zb_t (kn r) i = true
    · obtain ⟨y, Q1, Q2⟩ := ih (i + 1) (x + 1) (by omega)
      refine ⟨y, fun post hp => ?_, fun post hp => ?_⟩
      · rw [wX_known_13]
        dsimp only
        rw [er]
        exact br_f h ⟨h3, br_t ((zb_ush (kn r) (by omega)).mpr z) (nm_e (nm_r (nI_1 i) (Q1 post hp)))⟩
      · rw [wY_known_14]
        dsimp only
        rw [er]
        exact br_f h ⟨h3, zy_in _ (by omega) (fun _ => br_f zn_10 (nm_e (nm_r (nI_1 i) (Q2 post hp)))) (fun q => by rw [z] at q; exact nomatch q)⟩
    · obtain ⟨y, Q1, Q2⟩ := ih (i + 1) x (by omega)
      refine ⟨y, fun post hp => ?_, fun post hp => ?_⟩
      · rw [wX_known_13]
        dsimp only
        rw [er]
        exact br_f h ⟨h3, br_f (fun q => z ((zb_ush (kn r) (by omega)).mp q)) (nm_r (nI_1 i) (Q1 post hp))⟩
      · rw [wY_known_14]
        dsimp only
        rw [er]
        exact br_f h ⟨h3, zy_in _ (by omega) (fun q => absurd q z) (fun _ => br_t rfl (nm_r (nI_1 i) (Q2 post hp)))⟩
theorem zq_agree {a b : Nat} (hT : zt_T n kd ro nu st og cn kw kn sm) (hX : zr_X n kd ro nu st og cn kn cl ad sd ln ll tt) (ha : a < 3) (hb : b < 3) : ∀ d i, i + d = 8 →
    ∃ y : Int32, (∀ post : Int32 → Prop, post y → wX_agree_18 post (nI a) (nI b) (nI n) kd ro nu st og cn sm kn cl ad sd ln ll tt (d + 1) (nI i)) ∧ (∀ post : Int32 → Prop, post y → wY_agree_20 post (nI a) (nI b) (nI n) kd ro nu st og kw kn sm (d + 1) (nI i)) := by
  intro d
  induction d with
  | zero =>
    intro i hi
    have h : (8 : Int32) ≤ nI i := nI_le (a := 8) (by omega) (by omega)
    exact ⟨1, fun post hp => br_t h hp, fun post hp => br_t h hp⟩
  | succ d ih =>
    intro i hi
    have h : ¬ (8 : Int32) ≤ nI i := nI_ge (b := 8) (by omega) (by omega)
    obtain ⟨t1, _, tx1, ty1⟩ := zq_there hT hX ha (show i < 8 by omega)
    obtain ⟨t2, _, tx2, ty2⟩ := zq_there hT hX hb (show i < 8 by omega)
    obtain ⟨n1, nx1, ny1⟩ := zq_name hT hX (nI a) (nI i)
    obtain ⟨n2, nx2, ny2⟩ := zq_name hT hX (nI b) (nI i)
    obtain ⟨c1, cx1, cy1⟩ := zq_count hT hX (nI a) (nI i)
    obtain ⟨c2, cx2, cy2⟩ := zq_count hT hX (nI b) (nI i)
    obtain ⟨l1, lx1, ly1⟩ := zq_link hT hX (nI a) (nI i)
    obtain ⟨l2, lx2, ly2⟩ := zq_link hT hX (nI b) (nI i)
    by_cases e1 : t1 = t2
    · by_cases e2 : n1 = n2
      · by_cases e3 : c1 = c2
        · by_cases e4 : l1 = l2
          · obtain ⟨y, Q1, Q2⟩ := ih (i + 1) (by omega)
            refine ⟨y, fun post hp => ?_, fun post hp => ?_⟩
            · rw [wX_agree_18]
              refine br_f h ?_
              unfold wpX_sameRow
              exact tx1 _ (tx2 _ (br_t e1 (nx1 _ (nx2 _ (cx1 _ (cx2 _ (lx1 _ (lx2 _ (br_t e2 (br_t e3 (br_t e4 (br_f zn_10 (nm_r (nI_1 i) (Q1 post hp))))))))))))))
            · rw [wY_agree_20]
              exact br_f h (ty1 _ (ty2 _ (br_t e1 (ny1 _ (ny2 _ (br_t e2 (cy1 _ (cy2 _ (br_t e3 (ly1 _ (ly2 _ (br_t e4 (nm_r (nI_1 i) (Q2 post hp))))))))))))))
          · refine ⟨0, fun post hp => ?_, fun post hp => ?_⟩
            · rw [wX_agree_18]
              refine br_f h ?_
              unfold wpX_sameRow
              exact tx1 _ (tx2 _ (br_t e1 (nx1 _ (nx2 _ (cx1 _ (cx2 _ (lx1 _ (lx2 _ (br_t e2 (br_t e3 (br_f e4 (br_t rfl hp))))))))))))
            · rw [wY_agree_20]
              exact br_f h (ty1 _ (ty2 _ (br_t e1 (ny1 _ (ny2 _ (br_t e2 (cy1 _ (cy2 _ (br_t e3 (ly1 _ (ly2 _ (br_f e4 hp))))))))))))
        · refine ⟨0, fun post hp => ?_, fun post hp => ?_⟩
          · rw [wX_agree_18]
            refine br_f h ?_
            unfold wpX_sameRow
            exact tx1 _ (tx2 _ (br_t e1 (nx1 _ (nx2 _ (cx1 _ (cx2 _ (lx1 _ (lx2 _ (br_t e2 (br_f e3 (br_t rfl hp)))))))))))
          · rw [wY_agree_20]
            exact br_f h (ty1 _ (ty2 _ (br_t e1 (ny1 _ (ny2 _ (br_t e2 (cy1 _ (cy2 _ (br_f e3 hp)))))))))
      · refine ⟨0, fun post hp => ?_, fun post hp => ?_⟩
        · rw [wX_agree_18]
          refine br_f h ?_
          unfold wpX_sameRow
          exact tx1 _ (tx2 _ (br_t e1 (nx1 _ (nx2 _ (cx1 _ (cx2 _ (lx1 _ (lx2 _ (br_f e2 (br_t rfl hp))))))))))
        · rw [wY_agree_20]
          exact br_f h (ty1 _ (ty2 _ (br_t e1 (ny1 _ (ny2 _ (br_f e2 hp))))))
    · refine ⟨0, fun post hp => ?_, fun post hp => ?_⟩
      · rw [wX_agree_18]
        refine br_f h ?_
        unfold wpX_sameRow
        exact tx1 _ (tx2 _ (br_f e1 (br_t rfl hp)))
      · rw [wY_agree_20]
        exact br_f h (ty1 _ (ty2 _ (br_f e1 hp)))
end
end
section
section
variable {n : Nat} {kd ro nu st og : Nat → Int32} {cn : Nat → Int64} {sm : Nat → Int32} {kn cl ad sd : Nat → Int64} {ln ll tt : Nat → Int32} {kw : Nat → Int64}
theorem zn_m10 : ¬ (-1 : Int32) = 0 := by decide
theorem zn_m20 : ¬ (-2 : Int32) = 0 := by decide
theorem zn_m40 : ¬ (-4 : Int32) = 0 := by decide
/-! ===== refusals ===== -/
theorem zx_rf1 {post : Int32 → Prop} {a b : Int32} (h : zx_bR a) (hp : post (-1)) : wpX_refusal post (nI n, kd, ro, nu, st, og, cn, sm, kn, cl, ad, sd, ln, ll, tt) a b := by
  unfold wpX_refusal
  exact zx_R1 h (br_f zn_10 hp)
theorem zx_rf2 {post : Int32 → Prop} {r : Nat} {b : Int32} (hr : r < 3) (h : zx_bW b) (hp : post (-2)) : wpX_refusal post (nI n, kd, ro, nu, st, og, cn, sm, kn, cl, ad, sd, ln, ll, tt) (nI r) b := by
  unfold wpX_refusal
  exact zx_R0 hr (br_t rfl (zx_W1 h (br_f zn_10 hp)))
theorem zx_rf0 {post : Int32 → Prop} {r w : Nat} (hr : r < 3) (hw : w < 8) (hp : post 0) : wpX_refusal post (nI n, kd, ro, nu, st, og, cn, sm, kn, cl, ad, sd, ln, ll, tt) (nI r) (nI w) := by
  unfold wpX_refusal
  exact zx_R0 hr (br_t rfl (zx_W0 hw (br_t rfl hp)))
theorem zy_ac1 {post : Int32 → SY → Prop} {a k b x : Int32} (h : zx_bR a) (hp : post (-1) (nI n, kd, ro, nu, st, og, kw, kn, sm)) : wpY_act post (nI n, kd, ro, nu, st, og, kw, kn, sm) a k b x := by
  unfold wpY_act
  exact zy_R1 h (br_f zn_10 hp)
theorem zy_ac2 {post : Int32 → SY → Prop} {r : Nat} {k b x : Int32} (hr : r < 3) (h : zx_bW b) (hp : post (-2) (nI n, kd, ro, nu, st, og, kw, kn, sm)) : wpY_act post (nI n, kd, ro, nu, st, og, kw, kn, sm) (nI r) k b x := by
  unfold wpY_act
  exact zy_R0 hr (br_t rfl (zy_W1 h (br_f zn_10 hp)))
theorem zy_ac0 {post : Int32 → SY → Prop} {r w : Nat} {k x : Int32} (hr : r < 3) (hw : w < 8) (hk : ¬ k = 4) (hp : wY_act_41 post (nI r) k (nI w) x (nI n) kd ro nu st og kw kn sm) : wpY_act post (nI n, kd, ro, nu, st, og, kw, kn, sm) (nI r) k (nI w) x := by
  unfold wpY_act
  exact zy_R0 hr (br_t rfl (zy_W0 hw (br_t rfl (br_f hk hp))))
/-- add: refused alike, or let through alike -/
theorem zo_add (a b : Int32) :
    (∃ y : Int32, ¬ y = 0 ∧ (∀ post : Int32 → Prop, post y → wpX_refusal post (nI n, kd, ro, nu, st, og, cn, sm, kn, cl, ad, sd, ln, ll, tt) a b) ∧ (∀ post : Int32 → SY → Prop, post y (nI n, kd, ro, nu, st, og, kw, kn, sm) → wpY_act post (nI n, kd, ro, nu, st, og, kw, kn, sm) a 0 b 0)) ∨
    (∃ r w : Nat, r < 3 ∧ w < 8 ∧ a = nI r ∧ b = nI w ∧ (∀ post : Int32 → Prop, post 0 → wpX_refusal post (nI n, kd, ro, nu, st, og, cn, sm, kn, cl, ad, sd, ln, ll, tt) a b) ∧ (∀ post : Int32 → SY → Prop, wY_act_57 post a 0 b 0 (nI n) kd ro nu st og kw kn sm → wpY_act post (nI n, kd, ro, nu, st, og, kw, kn, sm) a 0 b 0)) := by
  rcases zx_rep a with h1 | ⟨r, hr, rfl⟩
  · exact Or.inl ⟨-1, zn_m10, fun _ hp => zx_rf1 h1 hp, fun _ hp => zy_ac1 h1 hp⟩
  rcases zx_row b with h2 | ⟨w, hw, rfl⟩
  · exact Or.inl ⟨-2, zn_m20, fun _ hp => zx_rf2 hr h2 hp, fun _ hp => zy_ac2 hr h2 hp⟩
  refine Or.inr ⟨r, w, hr, hw, rfl, rfl, fun _ hp => zx_rf0 hr hw hp, fun post hp => zy_ac0 hr hw (by decide) ?_⟩
  unfold wY_act_41
  exact br_t rfl hp
/-- drop, name, count: refused alike, or let through alike -/
theorem zo_abs (hT : zt_T n kd ro nu st og cn kw kn sm) (hX : zr_X n kd ro nu st og cn kn cl ad sd ln ll tt) {k : Int32} (hk0 : ¬ k = 0) (hk4 : ¬ k = 4) (a b x : Int32) :
    (∃ y : Int32, ¬ y = 0 ∧ (∀ post : Int32 → Prop, post y → wpX_refusalAbsent post (nI n, kd, ro, nu, st, og, cn, sm, kn, cl, ad, sd, ln, ll, tt) a b) ∧ (∀ post : Int32 → SY → Prop, post y (nI n, kd, ro, nu, st, og, kw, kn, sm) → wpY_act post (nI n, kd, ro, nu, st, og, kw, kn, sm) a k b x)) ∨
    (∃ r w : Nat, r < 3 ∧ w < 8 ∧ a = nI r ∧ b = nI w ∧ (∀ post : Int32 → Prop, post 0 → wpX_refusalAbsent post (nI n, kd, ro, nu, st, og, cn, sm, kn, cl, ad, sd, ln, ll, tt) a b) ∧ (∀ post : Int32 → SY → Prop, wY_act_57 post a k b x (nI n) kd ro nu st og kw kn sm → wpY_act post (nI n, kd, ro, nu, st, og, kw, kn, sm) a k b x)) := by
  rcases zx_rep a with h1 | ⟨r, hr, rfl⟩
  · refine Or.inl ⟨-1, zn_m10, fun _ hp => ?_, fun _ hp => zy_ac1 h1 hp⟩
    unfold wpX_refusalAbsent
    exact zx_rf1 h1 (br_f zn_m10 hp)
  rcases zx_row b with h2 | ⟨w, hw, rfl⟩
  · refine Or.inl ⟨-2, zn_m20, fun _ hp => ?_, fun _ hp => zy_ac2 hr h2 hp⟩
    unfold wpX_refusalAbsent
    exact zx_rf2 hr h2 (br_f zn_m20 hp)
  obtain ⟨t, h01, hx, hy⟩ := zq_there hT hX hr hw
  rcases h01 with rfl | rfl
  · refine Or.inl ⟨-4, zn_m40, fun _ hp => ?_, fun _ hp => zy_ac0 hr hw hk4 ?_⟩
    · unfold wpX_refusalAbsent
      exact zx_rf0 hr hw (br_t rfl (hx _ (br_t rfl hp)))
    · unfold wY_act_41
      exact br_f hk0 (hy _ (br_t rfl hp))
  · refine Or.inr ⟨r, w, hr, hw, rfl, rfl, fun _ hp => ?_, fun _ hp => zy_ac0 hr hw hk4 ?_⟩
    · unfold wpX_refusalAbsent
      exact zx_rf0 hr hw (br_t rfl (hx _ (br_f zn_10 hp)))
    · unfold wY_act_41
      exact br_f hk0 (hy _ (br_f zn_10 hp))
/-- link -/
theorem zo_link (hT : zt_T n kd ro nu st og cn kw kn sm) (hX : zr_X n kd ro nu st og cn kn cl ad sd ln ll tt) (a b x : Int32) :
    ∃ (y : Int32) (u' : SX) (v' : SY), zz_R u' v' ∧ (∀ post : Int32 → SX → Prop, post y u' → wpX_link post (nI n, kd, ro, nu, st, og, cn, sm, kn, cl, ad, sd, ln, ll, tt) a b x) ∧ (∀ post : Int32 → SY → Prop, post y v' → wpY_act post (nI n, kd, ro, nu, st, og, kw, kn, sm) a 4 b x) := by
  rcases zx_rep a with h1 | ⟨r, hr, rfl⟩
  · refine ⟨-1, (nI n, kd, ro, nu, st, og, cn, sm, kn, cl, ad, sd, ln, ll, tt), (nI n, kd, ro, nu, st, og, kw, kn, sm), zz_in hT hX, fun _ hp => ?_, fun _ hp => zy_ac1 h1 hp⟩
    unfold wpX_link
    exact zx_rf1 h1 (br_f zn_m10 hp)
  rcases zx_row b with h2 | ⟨w, hw, rfl⟩
  · refine ⟨-2, (nI n, kd, ro, nu, st, og, cn, sm, kn, cl, ad, sd, ln, ll, tt), (nI n, kd, ro, nu, st, og, kw, kn, sm), zz_in hT hX, fun _ hp => ?_, fun _ hp => zy_ac2 hr h2 hp⟩
    unfold wpX_link
    exact zx_rf2 hr h2 (br_f zn_m20 hp)
  have key : ((x = -1 ∨ ∃ w, w < 8 ∧ x = nI w) ∧ (∀ post : Int32 → SX → Prop, wX_link_31 post (nI r) (nI w) x (nI n) kd ro nu st og cn sm kn cl ad sd ln ll tt → wpX_link post (nI n, kd, ro, nu, st, og, cn, sm, kn, cl, ad, sd, ln, ll, tt) (nI r) (nI w) x) ∧ (∀ post : Int32 → SY → Prop, wY_act_41 post (nI r) 4 (nI w) x (nI n) kd ro nu st og kw kn sm → wpY_act post (nI n, kd, ro, nu, st, og, kw, kn, sm) (nI r) 4 (nI w) x)) ∨
      ((∀ post : Int32 → SX → Prop, post (-2) (nI n, kd, ro, nu, st, og, cn, sm, kn, cl, ad, sd, ln, ll, tt) → wpX_link post (nI n, kd, ro, nu, st, og, cn, sm, kn, cl, ad, sd, ln, ll, tt) (nI r) (nI w) x) ∧ (∀ post : Int32 → SY → Prop, post (-2) (nI n, kd, ro, nu, st, og, kw, kn, sm) → wpY_act post (nI n, kd, ro, nu, st, og, kw, kn, sm) (nI r) 4 (nI w) x)) := by
    by_cases e : x = -1
    · refine Or.inl ⟨Or.inl e, fun _ hp => ?_, fun _ hp => ?_⟩
      · unfold wpX_link
        exact zx_rf0 hr hw (br_t rfl (br_t e hp))
      · unfold wpY_act
        exact zy_R0 hr (br_t rfl (zy_W0 hw (br_t rfl (br_t rfl (br_t e hp)))))
    · rcases zx_row x with h3 | ⟨w2, hw2, rfl⟩
      · refine Or.inr ⟨fun _ hp => ?_, fun _ hp => ?_⟩
        · unfold wpX_link
          exact zx_rf0 hr hw (br_t rfl (br_f e (zx_W1 h3 (br_f zn_10 hp))))
        · unfold wpY_act
          exact zy_R0 hr (br_t rfl (zy_W0 hw (br_t rfl (br_t rfl (br_f e (zy_W1 h3 (br_f zn_10 hp)))))))
      · refine Or.inl ⟨Or.inr ⟨w2, hw2, rfl⟩, fun _ hp => ?_, fun _ hp => ?_⟩
        · unfold wpX_link
          exact zx_rf0 hr hw (br_t rfl (br_f e (zx_W0 hw2 (br_t rfl hp))))
        · unfold wpY_act
          exact zy_R0 hr (br_t rfl (zy_W0 hw (br_t rfl (br_t rfl (br_f e (zy_W0 hw2 (br_t rfl hp)))))))
  rcases key with ⟨hx4, KX, KY⟩ | ⟨KX, KY⟩
  · obtain ⟨t, h01, hx, hy⟩ := zq_there hT hX hr hw
    rcases h01 with rfl | rfl
    · refine ⟨-4, (nI n, kd, ro, nu, st, og, cn, sm, kn, cl, ad, sd, ln, ll, tt), (nI n, kd, ro, nu, st, og, kw, kn, sm), zz_in hT hX, fun _ hp => KX _ ?_, fun _ hp => KY _ ?_⟩
      · unfold wX_link_31
        exact hx _ (br_t rfl hp)
      · unfold wY_act_41
        exact br_f (by decide) (hy _ (br_t rfl hp))
    · obtain ⟨y, u', v', R, A1, A2⟩ := za_act (k := 4) (x := x) hT hX hr hw (by simp) (fun _ => hx4)
      refine ⟨y, u', v', R, fun post hp => KX _ ?_, fun post hp => KY _ ?_⟩
      · unfold wX_link_31
        obtain ⟨b0, b1, b2, b3, b4, b5, b6, b7, b8, b9, b10, b11, b12, b13, b14⟩ := u'
        exact hx _ (br_f zn_10 (A1 _ hp))
      · unfold wY_act_41
        exact br_f (by decide) (hy _ (br_f zn_10 (A2 _ hp)))
  · exact ⟨-2, (nI n, kd, ro, nu, st, og, cn, sm, kn, cl, ad, sd, ln, ll, tt), (nI n, kd, ro, nu, st, og, kw, kn, sm), zz_in hT hX, KX, KY⟩
end
end
section
/-- the relation doesn't depend on the turn -/
def i_Rel (k : Nat) (u : SX) (v : SY) : Prop := zz_R u v
theorem i_up {k : Nat} {u : SX} {v : SY} (h : i_Rel k u v) : i_Rel (k + 4) u v := h
theorem zo_T0 : zt_T 0 (fun _ => 0) (fun _ => 0) (fun _ => 0) (fun _ => 0) (fun _ => 0) (fun _ => 0) (fun _ => 0) (fun _ => 0) (fun _ => 0) := by
  refine ⟨by omega, fun a ha => absurd ha (Nat.not_lt_zero a), fun r _ b z => ?_, fun j _ => ⟨0, Nat.le_refl 0, rfl⟩, fun a ha => absurd ha (Nat.not_lt_zero a), fun a b ha => absurd ha (Nat.not_lt_zero a)⟩
  have := zb_0 b
  rw [this] at z
  exact nomatch z
theorem zo_X0 {ln ll : Nat → Int32} (h : ∀ j, j < 24 → ln j = -1 ∧ ll j = -1) : zr_X 0 (fun _ => 0) (fun _ => 0) (fun _ => 0) (fun _ => 0) (fun _ => 0) (fun _ => 0) (fun _ => 0) (fun _ => 0) (fun _ => 0) (fun _ => 0) ln ll (fun _ => 0) := by
  intro r hr
  have hf : ∀ b, ¬ zb_t 0 b = true := fun b z => by rw [zb_0] at z; exact nomatch z
  refine ⟨fun b => ⟨fun z => absurd z (hf b), fun ⟨a, z, _⟩ => absurd z (hf a)⟩, fun w hw => ?_⟩
  have hl := h (r * 8 + w) (by omega)
  exact ⟨fun b => ⟨fun z => absurd z (hf b), fun z => absurd z.1 (hf b)⟩, fun b => ⟨fun z => absurd z (hf b), fun z => absurd z.1 (hf b)⟩, Or.inl ⟨hl.1, fun a z => hf a z.1⟩, Or.inl ⟨hl.2, fun a z => hf a z.1⟩, rfl⟩
theorem zo_init {post : SX → Prop} (hp : ∀ ln ll : Nat → Int32, (∀ j, j < 24 → ln j = -1 ∧ ll j = -1) → post (0, (fun _ => 0), (fun _ => 0), (fun _ => 0), (fun _ => 0), (fun _ => 0), (fun _ => 0), (fun _ => 0), (fun _ => 0), (fun _ => 0), (fun _ => 0), (fun _ => 0), ln, ll, (fun _ => 0))) :
    ∀ d i (ln ll : Nat → Int32), i + d = 24 → (∀ j, j < i → ln j = -1 ∧ ll j = -1) → wX_init_115 post 0 (d + 1) (nI i) (fun _ => 0) (fun _ => 0) (fun _ => 0) (fun _ => 0) (fun _ => 0) (fun _ => 0) (fun _ => 0) (fun _ => 0) (fun _ => 0) (fun _ => 0) (fun _ => 0) ln ll (fun _ => 0) := by
  intro d
  induction d with
  | zero =>
    intro i ln ll hi h
    have e : i = 24 := by omega
    subst e
    exact br_t (nI_le (a := 24) (b := 24) (by omega) (by omega)) (hp ln ll h)
  | succ d ih =>
    intro i ln ll hi h
    have ei : (nI i).toNatClampNeg = i := zn_cl (by omega)
    have hin : vp_in (nI i) 24 := zn_in (by omega) (by omega)
    rw [wX_init_115]
    dsimp only
    rw [ei]
    refine br_f (nI_ge (b := 24) (by omega) (by omega)) ⟨hin, nm_e ⟨hin, nm_e (nm_r (nI_1 i) (ih (i + 1) _ _ (by omega) ?_))⟩⟩
    intro j hj
    by_cases e : j = i
    · subst e
      exact ⟨pk_us, pk_us⟩
    · rw [pk_un e, pk_un e]
      exact h j (by omega)
theorem i_vc0 : wpX_init (fun u => wpY_init (fun v => i_Rel 0 u v)) := by
  unfold wpX_init wpY_init
  exact ⟨25, zo_init (fun ln ll h => zz_in (n := 0) zo_T0 (zo_X0 h)) 24 0 _ _ (by omega) (fun j hj => absurd hj (Nat.not_lt_zero j))⟩
theorem i_vc_add {k : Nat} {u : SX} {v : SY} (I : i_Rel k u v) (hk : k + 4 ≤ 2048) (v1 : Int32) (v2 : Int32) : wpX_add (fun r u' => wpY_add (fun r' v' => r' = r ∧ i_Rel (k + 4) u' v') v v1 v2) u v1 v2 := by
  refine zz_el (P := fun u v => wpX_add (fun r u' => wpY_add (fun r' v' => r' = r ∧ i_Rel (k + 4) u' v') v v1 v2) u v1 v2) ?_ I
  intro n kd ro nu st og cn sm kn cl ad sd ln ll tt kw hT hX
  unfold wpX_add wpY_add
  dsimp only
  rcases zo_add (n := n) (kd := kd) (ro := ro) (nu := nu) (st := st) (og := og) (cn := cn) (sm := sm) (kn := kn) (cl := cl) (ad := ad) (sd := sd) (ln := ln) (ll := ll) (tt := tt) (kw := kw) v1 v2 with ⟨y, hy, AX, AY⟩ | ⟨r, w, hr, hw, rfl, rfl, AX, AY⟩
  · exact AX _ (br_f hy (AY _ ⟨rfl, zz_in hT hX⟩))
  · obtain ⟨y, ⟨b0, b1, b2, b3, b4, b5, b6, b7, b8, b9, b10, b11, b12, b13, b14⟩, ⟨d0, d1, d2, d3, d4, d5, d6, d7, d8⟩, R, A1, A2⟩ := za_act (k := 0) (x := 0) hT hX hr hw (by simp) (fun z => absurd z (by decide))
    exact AX _ (br_t rfl (A1 _ (AY _ (A2 _ ⟨rfl, R⟩))))
theorem i_vc_drop {k : Nat} {u : SX} {v : SY} (I : i_Rel k u v) (hk : k + 4 ≤ 2048) (v1 : Int32) (v2 : Int32) : wpX_drop (fun r u' => wpY_drop (fun r' v' => r' = r ∧ i_Rel (k + 4) u' v') v v1 v2) u v1 v2 := by
  refine zz_el (P := fun u v => wpX_drop (fun r u' => wpY_drop (fun r' v' => r' = r ∧ i_Rel (k + 4) u' v') v v1 v2) u v1 v2) ?_ I
  intro n kd ro nu st og cn sm kn cl ad sd ln ll tt kw hT hX
  unfold wpX_drop wpY_drop
  dsimp only
  rcases zo_abs hT hX (k := 1) (by decide) (by decide) v1 v2 0 with ⟨y, hy, AX, AY⟩ | ⟨r, w, hr, hw, rfl, rfl, AX, AY⟩
  · exact AX _ (br_f hy (AY _ ⟨rfl, zz_in hT hX⟩))
  · obtain ⟨y, ⟨b0, b1, b2, b3, b4, b5, b6, b7, b8, b9, b10, b11, b12, b13, b14⟩, ⟨d0, d1, d2, d3, d4, d5, d6, d7, d8⟩, R, A1, A2⟩ := za_act (k := 1) (x := 0) hT hX hr hw (by simp) (fun z => absurd z (by decide))
    exact AX _ (br_t rfl (A1 _ (AY _ (A2 _ ⟨rfl, R⟩))))
theorem i_vc_name {k : Nat} {u : SX} {v : SY} (I : i_Rel k u v) (hk : k + 4 ≤ 2048) (v1 : Int32) (v2 : Int32) (v3 : Int32) : wpX_name (fun r u' => wpY_name (fun r' v' => r' = r ∧ i_Rel (k + 4) u' v') v v1 v2 v3) u v1 v2 v3 := by
  refine zz_el (P := fun u v => wpX_name (fun r u' => wpY_name (fun r' v' => r' = r ∧ i_Rel (k + 4) u' v') v v1 v2 v3) u v1 v2 v3) ?_ I
  intro n kd ro nu st og cn sm kn cl ad sd ln ll tt kw hT hX
  unfold wpX_name wpY_name
  dsimp only
  rcases zo_abs hT hX (k := 2) (by decide) (by decide) v1 v2 v3 with ⟨y, hy, AX, AY⟩ | ⟨r, w, hr, hw, rfl, rfl, AX, AY⟩
  · exact AX _ (br_f hy (AY _ ⟨rfl, zz_in hT hX⟩))
  · obtain ⟨y, ⟨b0, b1, b2, b3, b4, b5, b6, b7, b8, b9, b10, b11, b12, b13, b14⟩, ⟨d0, d1, d2, d3, d4, d5, d6, d7, d8⟩, R, A1, A2⟩ := za_act (k := 2) (x := v3) hT hX hr hw (by simp) (fun z => absurd z (by decide))
    exact AX _ (br_t rfl (A1 _ (AY _ (A2 _ ⟨rfl, R⟩))))
theorem i_vc_count {k : Nat} {u : SX} {v : SY} (I : i_Rel k u v) (hk : k + 4 ≤ 2048) (v1 : Int32) (v2 : Int32) (v3 : Int32) : wpX_count (fun r u' => wpY_count (fun r' v' => r' = r ∧ i_Rel (k + 4) u' v') v v1 v2 v3) u v1 v2 v3 := by
  refine zz_el (P := fun u v => wpX_count (fun r u' => wpY_count (fun r' v' => r' = r ∧ i_Rel (k + 4) u' v') v v1 v2 v3) u v1 v2 v3) ?_ I
  intro n kd ro nu st og cn sm kn cl ad sd ln ll tt kw hT hX
  unfold wpX_count wpY_count
  dsimp only
  rcases zo_abs hT hX (k := 3) (by decide) (by decide) v1 v2 v3 with ⟨y, hy, AX, AY⟩ | ⟨r, w, hr, hw, rfl, rfl, AX, AY⟩
  · exact AX _ (br_f hy (AY _ ⟨rfl, zz_in hT hX⟩))
  · obtain ⟨y, ⟨b0, b1, b2, b3, b4, b5, b6, b7, b8, b9, b10, b11, b12, b13, b14⟩, ⟨d0, d1, d2, d3, d4, d5, d6, d7, d8⟩, R, A1, A2⟩ := za_act (k := 3) (x := v3) hT hX hr hw (by simp) (fun z => absurd z (by decide))
    exact AX _ (br_t rfl (A1 _ (AY _ (A2 _ ⟨rfl, R⟩))))
theorem i_vc_link {k : Nat} {u : SX} {v : SY} (I : i_Rel k u v) (hk : k + 4 ≤ 2048) (v1 : Int32) (v2 : Int32) (v3 : Int32) : wpX_link (fun r u' => wpY_link (fun r' v' => r' = r ∧ i_Rel (k + 4) u' v') v v1 v2 v3) u v1 v2 v3 := by
  refine zz_el (P := fun u v => wpX_link (fun r u' => wpY_link (fun r' v' => r' = r ∧ i_Rel (k + 4) u' v') v v1 v2 v3) u v1 v2 v3) ?_ I
  intro n kd ro nu st og cn sm kn cl ad sd ln ll tt kw hT hX
  obtain ⟨y, u', ⟨d0, d1, d2, d3, d4, d5, d6, d7, d8⟩, R, A1, A2⟩ := zo_link hT hX v1 v2 v3
  refine A1 _ ?_
  unfold wpY_link
  exact A2 _ ⟨rfl, R⟩
theorem i_vc_learn {k : Nat} {u : SX} {v : SY} (I : i_Rel k u v) (hk : k + 4 ≤ 2048) (v1 : Int32) (v2 : Int32) : wpX_learn (fun r u' => wpY_learn (fun r' v' => r' = r ∧ i_Rel (k + 4) u' v') v v1 v2) u v1 v2 := by
  refine zz_el (P := fun u v => wpX_learn (fun r u' => wpY_learn (fun r' v' => r' = r ∧ i_Rel (k + 4) u' v') v v1 v2) u v1 v2) ?_ I
  intro n kd ro nu st og cn sm kn cl ad sd ln ll tt kw hT hX
  obtain ⟨y, ⟨b0, b1, b2, b3, b4, b5, b6, b7, b8, b9, b10, b11, b12, b13, b14⟩, ⟨d0, d1, d2, d3, d4, d5, d6, d7, d8⟩, R, A1, A2⟩ := zl_some hT hX v1 v2 60
  unfold wpX_learn wpY_learn
  dsimp only
  exact A1 _ (A2 _ ⟨rfl, R⟩)
theorem i_vc_learnSome {k : Nat} {u : SX} {v : SY} (I : i_Rel k u v) (hk : k + 4 ≤ 2048) (v1 : Int32) (v2 : Int32) (v3 : Int32) : wpX_learnSome (fun r u' => wpY_learnSome (fun r' v' => r' = r ∧ i_Rel (k + 4) u' v') v v1 v2 v3) u v1 v2 v3 := by
  refine zz_el (P := fun u v => wpX_learnSome (fun r u' => wpY_learnSome (fun r' v' => r' = r ∧ i_Rel (k + 4) u' v') v v1 v2 v3) u v1 v2 v3) ?_ I
  intro n kd ro nu st og cn sm kn cl ad sd ln ll tt kw hT hX
  obtain ⟨y, u', v', R, A1, A2⟩ := zl_some hT hX v1 v2 v3
  exact A1 _ (A2 _ ⟨rfl, R⟩)
theorem i_vc_there {k : Nat} {u : SX} {v : SY} (I : i_Rel k u v) (hk : k + 4 ≤ 2048) (v1 : Int32) (v2 : Int32) : wpX_there (fun r => wpY_there (fun r' => r' = r ∧ i_Rel (k + 4) u v) v v1 v2) u v1 v2 := by
  refine zz_el (P := fun u v => wpX_there (fun r => wpY_there (fun r' => r' = r ∧ i_Rel (k + 4) u v) v v1 v2) u v1 v2) ?_ I
  intro n kd ro nu st og cn sm kn cl ad sd ln ll tt kw hT hX
  have R : i_Rel (k + 4) (nI n, kd, ro, nu, st, og, cn, sm, kn, cl, ad, sd, ln, ll, tt) (nI n, kd, ro, nu, st, og, kw, kn, sm) := zz_in hT hX
  unfold wpX_there
  rcases zx_rep v1 with h1 | ⟨r, hr, rfl⟩
  · exact zx_R1 h1 (br_f zn_10 (zy_there1 h1 ⟨rfl, R⟩))
  rcases zx_row v2 with h2 | ⟨w, hw, rfl⟩
  · exact zx_R0 hr (br_t rfl (zx_W1 h2 (br_f zn_10 (zy_there2 hr h2 ⟨rfl, R⟩))))
  obtain ⟨t, h01, hx, hy⟩ := zq_there hT hX hr hw
  rcases h01 with rfl | rfl
  · exact zx_R0 hr (br_t rfl (zx_W0 hw (br_t rfl (hx _ ⟨narrow_b0, hy _ ⟨rfl, R⟩⟩))))
  · exact zx_R0 hr (br_t rfl (zx_W0 hw (br_t rfl (hx _ ⟨narrow_b1, hy _ ⟨rfl, R⟩⟩))))
theorem i_vc_nameOf {k : Nat} {u : SX} {v : SY} (I : i_Rel k u v) (hk : k + 4 ≤ 2048) (v1 : Int32) (v2 : Int32) : wpX_nameOf (fun r => wpY_nameOf (fun r' => r' = r ∧ i_Rel (k + 4) u v) v v1 v2) u v1 v2 := by
  refine zz_el (P := fun u v => wpX_nameOf (fun r => wpY_nameOf (fun r' => r' = r ∧ i_Rel (k + 4) u v) v v1 v2) u v1 v2) ?_ I
  intro n kd ro nu st og cn sm kn cl ad sd ln ll tt kw hT hX
  obtain ⟨x, A1, A2⟩ := zq_name hT hX v1 v2
  exact A1 _ (A2 _ ⟨rfl, zz_in hT hX⟩)
theorem i_vc_countOf {k : Nat} {u : SX} {v : SY} (I : i_Rel k u v) (hk : k + 4 ≤ 2048) (v1 : Int32) (v2 : Int32) : wpX_countOf (fun r => wpY_countOf (fun r' => r' = r ∧ i_Rel (k + 4) u v) v v1 v2) u v1 v2 := by
  refine zz_el (P := fun u v => wpX_countOf (fun r => wpY_countOf (fun r' => r' = r ∧ i_Rel (k + 4) u v) v v1 v2) u v1 v2) ?_ I
  intro n kd ro nu st og cn sm kn cl ad sd ln ll tt kw hT hX
  obtain ⟨x, A1, A2⟩ := zq_count hT hX v1 v2
  exact A1 _ (A2 _ ⟨rfl, zz_in hT hX⟩)
theorem i_vc_linkOf {k : Nat} {u : SX} {v : SY} (I : i_Rel k u v) (hk : k + 4 ≤ 2048) (v1 : Int32) (v2 : Int32) : wpX_linkOf (fun r => wpY_linkOf (fun r' => r' = r ∧ i_Rel (k + 4) u v) v v1 v2) u v1 v2 := by
  refine zz_el (P := fun u v => wpX_linkOf (fun r => wpY_linkOf (fun r' => r' = r ∧ i_Rel (k + 4) u v) v v1 v2) u v1 v2) ?_ I
  intro n kd ro nu st og cn sm kn cl ad sd ln ll tt kw hT hX
  obtain ⟨x, A1, A2⟩ := zq_link hT hX v1 v2
  exact A1 _ (A2 _ ⟨rfl, zz_in hT hX⟩)
theorem i_vc_rows {k : Nat} {u : SX} {v : SY} (I : i_Rel k u v) (hk : k + 4 ≤ 2048) (v1 : Int32) : wpX_rows (fun r => wpY_rows (fun r' => r' = r ∧ i_Rel (k + 4) u v) v v1) u v1 := by
  refine zz_el (P := fun u v => wpX_rows (fun r => wpY_rows (fun r' => r' = r ∧ i_Rel (k + 4) u v) v v1) u v1) ?_ I
  intro n kd ro nu st og cn sm kn cl ad sd ln ll tt kw hT hX
  have R : i_Rel (k + 4) (nI n, kd, ro, nu, st, og, cn, sm, kn, cl, ad, sd, ln, ll, tt) (nI n, kd, ro, nu, st, og, kw, kn, sm) := zz_in hT hX
  unfold wpX_rows wpY_rows
  rcases zx_rep v1 with h1 | ⟨r, hr, rfl⟩
  · exact zx_R1 h1 (br_f zn_10 (zy_R1 h1 (br_f zn_10 ⟨rfl, R⟩)))
  obtain ⟨y, A1, A2⟩ := zq_rows hT hX hr 8 0 0 (by omega)
  exact zx_R0 hr (br_t rfl ⟨9, A1 _ (zy_R0 hr (br_t rfl ⟨9, A2 _ ⟨rfl, R⟩⟩))⟩)
theorem i_vc_sum {k : Nat} {u : SX} {v : SY} (I : i_Rel k u v) (hk : k + 4 ≤ 2048) (v1 : Int32) : wpX_sum (fun r => wpY_sum (fun r' => r' = r ∧ i_Rel (k + 4) u v) v v1) u v1 := by
  refine zz_el (P := fun u v => wpX_sum (fun r => wpY_sum (fun r' => r' = r ∧ i_Rel (k + 4) u v) v v1) u v1) ?_ I
  intro n kd ro nu st og cn sm kn cl ad sd ln ll tt kw hT hX
  have R : i_Rel (k + 4) (nI n, kd, ro, nu, st, og, cn, sm, kn, cl, ad, sd, ln, ll, tt) (nI n, kd, ro, nu, st, og, kw, kn, sm) := zz_in hT hX
  unfold wpX_sum wpY_sum
  rcases zx_rep v1 with h1 | ⟨r, hr, rfl⟩
  · exact zx_R1 h1 (br_f zn_10 (zy_R1 h1 (br_f zn_10 ⟨rfl, R⟩)))
  obtain ⟨y, A1, A2⟩ := zq_sum (r := r) hT hX 8 0 0 (by omega)
  exact zx_R0 hr (br_t rfl ⟨9, A1 _ (zy_R0 hr (br_t rfl ⟨9, A2 _ ⟨rfl, R⟩⟩))⟩)
theorem i_vc_known {k : Nat} {u : SX} {v : SY} (I : i_Rel k u v) (hk : k + 4 ≤ 2048) (v1 : Int32) : wpX_known (fun r => wpY_known (fun r' => r' = r ∧ i_Rel (k + 4) u v) v v1) u v1 := by
  refine zz_el (P := fun u v => wpX_known (fun r => wpY_known (fun r' => r' = r ∧ i_Rel (k + 4) u v) v v1) u v1) ?_ I
  intro n kd ro nu st og cn sm kn cl ad sd ln ll tt kw hT hX
  have R : i_Rel (k + 4) (nI n, kd, ro, nu, st, og, cn, sm, kn, cl, ad, sd, ln, ll, tt) (nI n, kd, ro, nu, st, og, kw, kn, sm) := zz_in hT hX
  unfold wpX_known wpY_known
  rcases zx_rep v1 with h1 | ⟨r, hr, rfl⟩
  · exact zx_R1 h1 (br_f zn_10 (zy_R1 h1 (br_f zn_10 ⟨rfl, R⟩)))
  obtain ⟨y, A1, A2⟩ := zq_known (n := n) (kd := kd) (ro := ro) (nu := nu) (st := st) (og := og) (cn := cn) (sm := sm) (kn := kn) (cl := cl) (ad := ad) (sd := sd) (ln := ln) (ll := ll) (tt := tt) (kw := kw) hT.1 hr n 0 0 (by omega)
  exact zx_R0 hr (br_t rfl ⟨n + 1, A1 _ (zy_R0 hr (br_t rfl ⟨n + 1, A2 _ ⟨rfl, R⟩⟩))⟩)
theorem i_vc_agree {k : Nat} {u : SX} {v : SY} (I : i_Rel k u v) (hk : k + 4 ≤ 2048) (v1 : Int32) (v2 : Int32) : wpX_agree (fun r => wpY_agree (fun r' => r' = r ∧ i_Rel (k + 4) u v) v v1 v2) u v1 v2 := by
  refine zz_el (P := fun u v => wpX_agree (fun r => wpY_agree (fun r' => r' = r ∧ i_Rel (k + 4) u v) v v1 v2) u v1 v2) ?_ I
  intro n kd ro nu st og cn sm kn cl ad sd ln ll tt kw hT hX
  have R : i_Rel (k + 4) (nI n, kd, ro, nu, st, og, cn, sm, kn, cl, ad, sd, ln, ll, tt) (nI n, kd, ro, nu, st, og, kw, kn, sm) := zz_in hT hX
  unfold wpX_agree wpY_agree
  rcases zx_rep v1 with h1 | ⟨r, hr, rfl⟩
  · exact zx_R1 h1 (br_f zn_10 (zy_R1 h1 (br_f zn_10 ⟨rfl, R⟩)))
  rcases zx_rep v2 with h2 | ⟨s, hs, rfl⟩
  · exact zx_R0 hr (br_t rfl (zx_R1 h2 (br_f zn_10 (zy_R0 hr (br_t rfl (zy_R1 h2 (br_f zn_10 ⟨rfl, R⟩)))))))
  obtain ⟨y, A1, A2⟩ := zq_agree hT hX hr hs 8 0 (by omega)
  exact zx_R0 hr (br_t rfl (zx_R0 hs (br_t rfl ⟨9, A1 _ (zy_R0 hr (br_t rfl (zy_R0 hs (br_t rfl ⟨9, A2 _ ⟨rfl, R⟩⟩))))⟩)))
end
