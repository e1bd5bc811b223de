section
theorem pk_us {f : Nat → Int32} {k : Nat} {x : Int32} : upd f k x k = x := if_pos rfl
theorem pk_un {f : Nat → Int32} {k j : Nat} {x : Int32} (h : j ≠ k) : upd f k x j = f j := if_neg h
theorem pk_sub {a b : Nat} (h : b ≤ a) : nI a - nI b = nI (a - b) := by
  obtain ⟨c, rfl⟩ : ∃ c, a = c + b := ⟨a - b, by omega⟩
  rw [← nI_add, Int32.add_sub_cancel, Nat.add_sub_cancel]
theorem pk_m1 (n : Nat) : nI (n + 1) + (-1) = nI n := by
  rw [← nI_1, Int32.add_assoc, show (1 : Int32) + (-1) = 0 from rfl, Int32.add_zero]
theorem pk_mul (a b : Nat) : nI a * nI b = nI (a * b) := (Int32.ofNat_mul a b).symm
theorem pk_div {a d : Nat} (ha : a < 2 ^ 31) (h0 : 0 < d) (hd : d < 2 ^ 31) : nI a / nI d = nI (a / d) := by
  apply Int32.toInt_inj.mp
  rw [lg_idiv_nonneg (by rw [nI_toInt ha]; omega) (by rw [nI_toInt hd]; omega), nI_toInt ha, nI_toInt hd, nI_toInt (Nat.lt_of_le_of_lt (Nat.div_le_self a d) ha)]
  first | rfl | exact (Int.natCast_ediv _ _).symm
theorem pk_rem {a d : Nat} (ha : a < 2 ^ 31) (h0 : 0 < d) (hd : d < 2 ^ 31) : nI a - nI a / nI d * nI d = nI (a % d) := by
  rw [pk_div ha h0 hd, pk_mul, pk_sub (Nat.div_mul_le_self a d)]
  exact congrArg nI (by have := Nat.div_add_mod' a d; omega)
theorem pk_ix (x : Int32) {n : Nat} (hn : n < 2 ^ 31) : x < 0 ∨ nI n ≤ x ∨ ∃ j : Nat, j < n ∧ x = nI j := by
  by_cases h : x < 0
  · exact Or.inl h
  · obtain ⟨j, hj, rfl⟩ := nI_of h
    by_cases h2 : j < n
    · exact Or.inr (Or.inr ⟨j, h2, rfl⟩)
    · exact Or.inr (Or.inl (nI_le (by omega) hj))
theorem pk_le {x y : Int32} {A B : Prop} (a b : Nat) (f : a ≤ b → A) (g : b < a → B) (hx : x = nI a := by rfl) (hy : y = nI b := by rfl) (ha : a < 2 ^ 31 := by omega) (hb : b < 2 ^ 31 := by omega) : (x ≤ y → A) ∧ (¬ x ≤ y → B) := by
  subst hx hy
  rw [nI_leI ha hb]
  exact ⟨f, fun z => g (by omega)⟩
theorem pk_lt {x y : Int32} {A B : Prop} (a b : Nat) (f : a < b → A) (g : b ≤ a → B) (hx : x = nI a := by rfl) (hy : y = nI b := by rfl) (ha : a < 2 ^ 31 := by omega) (hb : b < 2 ^ 31 := by omega) : (x < y → A) ∧ (¬ x < y → B) := by
  subst hx hy
  rw [nI_ltI ha hb]
  exact ⟨f, fun z => g (by omega)⟩
theorem pk_eq {x y : Int32} {A B : Prop} (a b : Nat) (f : a = b → A) (g : a ≠ b → B) (hx : x = nI a := by rfl) (hy : y = nI b := by rfl) (ha : a < 2 ^ 31 := by omega) (hb : b < 2 ^ 31 := by omega) : (x = y → A) ∧ (¬ x = y → B) := by
  subst hx hy
  rw [nI_eq ha hb]
  exact ⟨f, g⟩
theorem pk_in {x : Int32} (n N : Nat) (h : n < N) (hx : x = nI n := by rfl) (hN : N < 2 ^ 31 := by omega) : vp_in x N := by
  subst hx
  exact vp_in_nI h hN
theorem pk_cl {x : Int32} (n : Nat) (hx : x = nI n := by rfl) (h : n < 2 ^ 31 := by omega) : x.toNatClampNeg = n := by
  subst hx
  exact nI_clamp h
theorem pk_tn {n : Nat} (h : n < 2 ^ 32) : (nI n).toBitVec.toNat = n := Nat.mod_eq_of_lt h
theorem pk_and (x : Int32) {m : Int32} (k : Nat) (hm : m.toBitVec.toNat = 2 ^ k - 1) : x &&& m = nI (x.toBitVec.toNat % 2 ^ k) := by
  apply Int32.toBitVec_inj.mp
  apply BitVec.eq_of_toNat_eq
  rw [Int32.toBitVec_and, BitVec.toNat_and, hm, Nat.and_two_pow_sub_one_eq_mod]
  show _ = (BitVec.ofNat 32 _).toNat
  rw [BitVec.toNat_ofNat]
  exact (Nat.mod_eq_of_lt (Nat.lt_of_le_of_lt (Nat.mod_le _ _) x.toBitVec.isLt)).symm
theorem pk_andN {n : Nat} (h : n < 2 ^ 32) {m : Int32} (k : Nat) (hm : m.toBitVec.toNat = 2 ^ k - 1) : nI n &&& m = nI (n % 2 ^ k) := by
  rw [pk_and _ k hm, pk_tn h]
theorem pk_andE (x : Int32) {m : Int32} (k : Nat) (hm : m.toBitVec.toNat = 2 ^ k - 1) : ∃ j : Nat, j < 2 ^ k ∧ x &&& m = nI j := ⟨_, Nat.mod_lt _ (Nat.two_pow_pos k), pk_and x k hm⟩
theorem pk_andIn (x : Int32) {m : Int32} (k : Nat) (hm : m.toBitVec.toNat = 2 ^ k - 1) (hk : k ≤ 30) : vp_in (x &&& m) (2 ^ k) := by
  obtain ⟨j, hj, e⟩ := pk_andE x k hm
  rw [e]
  exact vp_in_nI hj (Nat.lt_of_le_of_lt (Nat.pow_le_pow_right (by decide) hk) (by decide))
theorem pk_shl (a s : Int32) (k : Nat) (hs : (s.toBitVec.smod 32).toNat = k) : (a <<< s).toBitVec.toNat = a.toBitVec.toNat * 2 ^ k % 2 ^ 32 := by
  show (a.toBitVec <<< (s.toBitVec.smod 32).toNat).toNat = _
  rw [hs, BitVec.toNat_shiftLeft, Nat.shiftLeft_eq]
theorem pk_shlN {n : Nat} (s : Int32) (k : Nat) (hs : (s.toBitVec.smod 32).toNat = k) (h : n * 2 ^ k < 2 ^ 32) : nI n <<< s = nI (n * 2 ^ k) := by
  apply Int32.toBitVec_inj.mp
  apply BitVec.eq_of_toNat_eq
  have hn : n < 2 ^ 32 := Nat.lt_of_le_of_lt (Nat.le_mul_of_pos_right n (Nat.two_pow_pos k)) h
  rw [pk_shl _ _ k hs, pk_tn hn, pk_tn h, Nat.mod_eq_of_lt h]
theorem pk_shr (a s : Int32) (k : Nat) (hs : (s.toBitVec.smod 32).toNat = k) : (a >>> s).toInt = a.toInt >>> k := by
  show (a.toBitVec.sshiftRight (s.toBitVec.smod 32).toNat).toInt = _
  rw [hs, BitVec.toInt_sshiftRight]
  rfl
theorem pk_shrN {n : Nat} (h : n < 2 ^ 31) (s : Int32) (k : Nat) (hs : (s.toBitVec.smod 32).toNat = k) : nI n >>> s = nI (n / 2 ^ k) := by
  apply Int32.toInt_inj.mp
  have h2 : n / 2 ^ k ≤ n := Nat.div_le_self _ _
  rw [pk_shr _ _ k hs, nI_toInt h, nI_toInt (by omega), Int.shiftRight_eq_div_pow]
  rfl
theorem pk_least (P : Nat → Prop) (h : ∃ k, P k) : ∃ k, P k ∧ ∀ j, j < k → ¬ P j := by
  obtain ⟨k, hk⟩ := h
  induction k using Nat.strongRecOn with
  | ind k ih =>
    by_cases e : ∃ j, j < k ∧ P j
    · obtain ⟨j, hj, pj⟩ := e
      exact ih j hj pj
    · exact ⟨k, hk, fun j hj pj => e ⟨j, hj, pj⟩⟩
def bt (x : Int32) (i : Nat) : Bool := x.toBitVec.getLsbD i
theorem b_ext {x y : Int32} (h : ∀ i, i < 32 → bt x i = bt y i) : x = y := Int32.toBitVec_inj.mp (BitVec.eq_of_getLsbD_eq (fun i hi => h i hi))
theorem b_or (x y : Int32) (i : Nat) : bt (x ||| y) i = (bt x i || bt y i) := by unfold bt; rw [Int32.toBitVec_or, BitVec.getLsbD_or]
theorem b_and (x y : Int32) (i : Nat) : bt (x &&& y) i = (bt x i && bt y i) := by unfold bt; rw [Int32.toBitVec_and, BitVec.getLsbD_and]
theorem b_xor (x y : Int32) (i : Nat) : bt (x ^^^ y) i = (bt x i ^^ bt y i) := by unfold bt; rw [Int32.toBitVec_xor, BitVec.getLsbD_xor]
theorem b_big {x : Int32} {i : Nat} (h : 32 ≤ i) : bt x i = false := BitVec.getLsbD_of_ge _ _ h
theorem b_m1 : ∀ i, i < 32 → bt (-1) i = true := by decide +kernel
theorem b_0 (i : Nat) : bt 0 i = false := BitVec.getLsbD_zero
theorem s_l : ∀ n, n < 32 → ((nI n &&& 31).toBitVec.smod 32).toNat = n := by decide +kernel
theorem b_shl (n : Nat) (hn : n < 32) (x : Int32) {i : Nat} (hi : i < 32) : bt (x <<< (nI n &&& 31)) i = (decide (n ≤ i) && bt x (i - n)) := by
  unfold bt
  rw [Int32.toBitVec_shiftLeft]
  show (x.toBitVec <<< ((nI n &&& 31).toBitVec.smod 32).toNat).getLsbD i = _
  rw [s_l n hn, BitVec.getLsbD_shiftLeft]
  rcases Nat.lt_or_ge i n with h | h
  · simp [h, Nat.not_le.mpr h]
  · simp [hi, h, Nat.not_lt.mpr h]
theorem b_sshr (n : Nat) (hn : n < 32) (x : Int32) {i : Nat} (hi : i < 32) : bt (x >>> (nI n &&& 31)) i = if n + i < 32 then bt x (n + i) else bt x 31 := by
  unfold bt
  rw [Int32.toBitVec_shiftRight]
  show (x.toBitVec.sshiftRight ((nI n &&& 31).toBitVec.smod 32).toNat).getLsbD i = _
  rw [s_l n hn, BitVec.getLsbD_sshiftRight, BitVec.msb_eq_getLsbD_last]
  simp [hi]
theorem nx_and (a b : Nat) : nI a &&& nI b = nI (a &&& b) := by
  apply Int32.toBitVec_inj.1
  show BitVec.ofNat 32 a &&& BitVec.ofNat 32 b = BitVec.ofNat 32 (a &&& b)
  apply BitVec.eq_of_getLsbD_eq
  intro i hi
  simp [hi]
theorem nx_xor (a b : Nat) : nI a ^^^ nI b = nI (a ^^^ b) := by
  apply Int32.toBitVec_inj.1
  show BitVec.ofNat 32 a ^^^ BitVec.ofNat 32 b = BitVec.ofNat 32 (a ^^^ b)
  apply BitVec.eq_of_getLsbD_eq
  intro i hi
  simp [hi]
end
section
/-! the two states: getters, setters, blocks -/
def gx_active (u : SX) : Int32 := u.1
def gx_outPlace (u : SX) : Int32 := u.2.1
def gx_outHeader (u : SX) : Int32 := u.2.2.1
def gx_freeNode (u : SX) : Int32 := u.2.2.2.1
def gx_freeCount (u : SX) : Int32 := u.2.2.2.2.1
def gx_keptDiagram (u : SX) : Int32 := u.2.2.2.2.2.1
def gx_depth (u : SX) : Int32 := u.2.2.2.2.2.2.1
def gx_got (u : SX) : Int32 := u.2.2.2.2.2.2.2.1
def gx_stamp (u : SX) : Int32 := u.2.2.2.2.2.2.2.2.1
def gx_links (u : SX) : Nat → Int32 := u.2.2.2.2.2.2.2.2.2.1
def gx_ruleCount (u : SX) : Nat → Int32 := u.2.2.2.2.2.2.2.2.2.2.1
def gx_matches (u : SX) : Nat → Int32 := u.2.2.2.2.2.2.2.2.2.2.2.1
def gx_actions (u : SX) : Nat → Int32 := u.2.2.2.2.2.2.2.2.2.2.2.2.1
def gx_changes (u : SX) : Nat → Int32 := u.2.2.2.2.2.2.2.2.2.2.2.2.2.1
def gx_states (u : SX) : Nat → Int32 := u.2.2.2.2.2.2.2.2.2.2.2.2.2.2.1
def gx_places (u : SX) : Nat → Int32 := u.2.2.2.2.2.2.2.2.2.2.2.2.2.2.2.1
def gx_headers (u : SX) : Nat → Int32 := u.2.2.2.2.2.2.2.2.2.2.2.2.2.2.2.2.1
def gx_tables (u : SX) : Nat → Int32 := u.2.2.2.2.2.2.2.2.2.2.2.2.2.2.2.2.2.1
def gx_treated (u : SX) : Nat → Int32 := u.2.2.2.2.2.2.2.2.2.2.2.2.2.2.2.2.2.2.1
def gx_nodes (u : SX) : Nat → Int32 := u.2.2.2.2.2.2.2.2.2.2.2.2.2.2.2.2.2.2.2.1
def gx_following (u : SX) : Nat → Int32 := u.2.2.2.2.2.2.2.2.2.2.2.2.2.2.2.2.2.2.2.2.1
def gx_marked (u : SX) : Nat → Int32 := u.2.2.2.2.2.2.2.2.2.2.2.2.2.2.2.2.2.2.2.2.2.1
def gx_bucket (u : SX) : Nat → Int32 := u.2.2.2.2.2.2.2.2.2.2.2.2.2.2.2.2.2.2.2.2.2.2.1
def gx_now (u : SX) : Nat → Int32 := u.2.2.2.2.2.2.2.2.2.2.2.2.2.2.2.2.2.2.2.2.2.2.2.1
def gx_next (u : SX) : Nat → Int32 := u.2.2.2.2.2.2.2.2.2.2.2.2.2.2.2.2.2.2.2.2.2.2.2.2.1
def gx_layer (u : SX) : Nat → Int32 := u.2.2.2.2.2.2.2.2.2.2.2.2.2.2.2.2.2.2.2.2.2.2.2.2.2.1
def gx_workLevel (u : SX) : Nat → Int32 := u.2.2.2.2.2.2.2.2.2.2.2.2.2.2.2.2.2.2.2.2.2.2.2.2.2.2.1
def gx_workOne (u : SX) : Nat → Int32 := u.2.2.2.2.2.2.2.2.2.2.2.2.2.2.2.2.2.2.2.2.2.2.2.2.2.2.2.1
def gx_workTwo (u : SX) : Nat → Int32 := u.2.2.2.2.2.2.2.2.2.2.2.2.2.2.2.2.2.2.2.2.2.2.2.2.2.2.2.2.1
def gx_workPhase (u : SX) : Nat → Int32 := u.2.2.2.2.2.2.2.2.2.2.2.2.2.2.2.2.2.2.2.2.2.2.2.2.2.2.2.2.2.1
def gx_workLow (u : SX) : Nat → Int32 := u.2.2.2.2.2.2.2.2.2.2.2.2.2.2.2.2.2.2.2.2.2.2.2.2.2.2.2.2.2.2.1
def gx_memoStamp (u : SX) : Nat → Int32 := u.2.2.2.2.2.2.2.2.2.2.2.2.2.2.2.2.2.2.2.2.2.2.2.2.2.2.2.2.2.2.2.1
def gx_memoOne (u : SX) : Nat → Int32 := u.2.2.2.2.2.2.2.2.2.2.2.2.2.2.2.2.2.2.2.2.2.2.2.2.2.2.2.2.2.2.2.2.1
def gx_memoTwo (u : SX) : Nat → Int32 := u.2.2.2.2.2.2.2.2.2.2.2.2.2.2.2.2.2.2.2.2.2.2.2.2.2.2.2.2.2.2.2.2.2.1
def gx_memoLevel (u : SX) : Nat → Int32 := u.2.2.2.2.2.2.2.2.2.2.2.2.2.2.2.2.2.2.2.2.2.2.2.2.2.2.2.2.2.2.2.2.2.2.1
def gx_memoGot (u : SX) : Nat → Int32 := u.2.2.2.2.2.2.2.2.2.2.2.2.2.2.2.2.2.2.2.2.2.2.2.2.2.2.2.2.2.2.2.2.2.2.2
def gy_active (u : SY) : Int32 := u.1
def gy_outPlace (u : SY) : Int32 := u.2.1
def gy_outHeader (u : SY) : Int32 := u.2.2.1
def gy_seen (u : SY) : Int32 := u.2.2.2.1
def gy_links (u : SY) : Nat → Int32 := u.2.2.2.2.1
def gy_sizes (u : SY) : Nat → Int32 := u.2.2.2.2.2.1
def gy_matches (u : SY) : Nat → Int32 := u.2.2.2.2.2.2.1
def gy_actions (u : SY) : Nat → Int32 := u.2.2.2.2.2.2.2.1
def gy_changes (u : SY) : Nat → Int32 := u.2.2.2.2.2.2.2.2.1
def gy_states (u : SY) : Nat → Int32 := u.2.2.2.2.2.2.2.2.2.1
def gy_places (u : SY) : Nat → Int32 := u.2.2.2.2.2.2.2.2.2.2.1
def gy_headers (u : SY) : Nat → Int32 := u.2.2.2.2.2.2.2.2.2.2.2.1
def gy_tables (u : SY) : Nat → Int32 := u.2.2.2.2.2.2.2.2.2.2.2.2.1
def gy_treated (u : SY) : Nat → Int32 := u.2.2.2.2.2.2.2.2.2.2.2.2.2
def sx_links (u : SX) (l : Nat → Int32) : SX := (gx_active u, gx_outPlace u, gx_outHeader u, gx_freeNode u, gx_freeCount u, gx_keptDiagram u, gx_depth u, gx_got u, gx_stamp u, l, gx_ruleCount u, gx_matches u, gx_actions u, gx_changes u, gx_states u, gx_places u, gx_headers u, gx_tables u, gx_treated u, gx_nodes u, gx_following u, gx_marked u, gx_bucket u, gx_now u, gx_next u, gx_layer u, gx_workLevel u, gx_workOne u, gx_workTwo u, gx_workPhase u, gx_workLow u, gx_memoStamp u, gx_memoOne u, gx_memoTwo u, gx_memoLevel u, gx_memoGot u)
def sx_rules (u : SX) (c m a h : Nat → Int32) : SX := (gx_active u, gx_outPlace u, gx_outHeader u, gx_freeNode u, gx_freeCount u, gx_keptDiagram u, gx_depth u, gx_got u, gx_stamp u, gx_links u, c, m, a, h, gx_states u, gx_places u, gx_headers u, gx_tables u, gx_treated u, gx_nodes u, gx_following u, gx_marked u, gx_bucket u, gx_now u, gx_next u, gx_layer u, gx_workLevel u, gx_workOne u, gx_workTwo u, gx_workPhase u, gx_workLow u, gx_memoStamp u, gx_memoOne u, gx_memoTwo u, gx_memoLevel u, gx_memoGot u)
def sx_act (u : SX) (x : Int32) : SX := (x, gx_outPlace u, gx_outHeader u, gx_freeNode u, gx_freeCount u, gx_keptDiagram u, gx_depth u, gx_got u, gx_stamp u, gx_links u, gx_ruleCount u, gx_matches u, gx_actions u, gx_changes u, gx_states u, gx_places u, gx_headers u, gx_tables u, gx_treated u, gx_nodes u, gx_following u, gx_marked u, gx_bucket u, gx_now u, gx_next u, gx_layer u, gx_workLevel u, gx_workOne u, gx_workTwo u, gx_workPhase u, gx_workLow u, gx_memoStamp u, gx_memoOne u, gx_memoTwo u, gx_memoLevel u, gx_memoGot u)
def sx_pk (u : SX) (st pl hd tb tr : Nat → Int32) : SX := (gx_active u, gx_outPlace u, gx_outHeader u, gx_freeNode u, gx_freeCount u, gx_keptDiagram u, gx_depth u, gx_got u, gx_stamp u, gx_links u, gx_ruleCount u, gx_matches u, gx_actions u, gx_changes u, st, pl, hd, tb, tr, gx_nodes u, gx_following u, gx_marked u, gx_bucket u, gx_now u, gx_next u, gx_layer u, gx_workLevel u, gx_workOne u, gx_workTwo u, gx_workPhase u, gx_workLow u, gx_memoStamp u, gx_memoOne u, gx_memoTwo u, gx_memoLevel u, gx_memoGot u)
def sx_out (u : SX) (p h : Int32) : SX := (gx_active u, p, h, gx_freeNode u, gx_freeCount u, gx_keptDiagram u, gx_depth u, gx_got u, gx_stamp u, gx_links u, gx_ruleCount u, gx_matches u, gx_actions u, gx_changes u, gx_states u, gx_places u, gx_headers u, gx_tables u, gx_treated u, gx_nodes u, gx_following u, gx_marked u, gx_bucket u, gx_now u, gx_next u, gx_layer u, gx_workLevel u, gx_workOne u, gx_workTwo u, gx_workPhase u, gx_workLow u, gx_memoStamp u, gx_memoOne u, gx_memoTwo u, gx_memoLevel u, gx_memoGot u)
def sx_sto (u : SX) (fn fc : Int32) (nd fl bk : Nat → Int32) : SX := (gx_active u, gx_outPlace u, gx_outHeader u, fn, fc, gx_keptDiagram u, gx_depth u, gx_got u, gx_stamp u, gx_links u, gx_ruleCount u, gx_matches u, gx_actions u, gx_changes u, gx_states u, gx_places u, gx_headers u, gx_tables u, gx_treated u, nd, fl, gx_marked u, bk, gx_now u, gx_next u, gx_layer u, gx_workLevel u, gx_workOne u, gx_workTwo u, gx_workPhase u, gx_workLow u, gx_memoStamp u, gx_memoOne u, gx_memoTwo u, gx_memoLevel u, gx_memoGot u)
def sx_work (u : SX) (d : Int32) (wl wo wt wp ww : Nat → Int32) : SX := (gx_active u, gx_outPlace u, gx_outHeader u, gx_freeNode u, gx_freeCount u, gx_keptDiagram u, d, gx_got u, gx_stamp u, gx_links u, gx_ruleCount u, gx_matches u, gx_actions u, gx_changes u, gx_states u, gx_places u, gx_headers u, gx_tables u, gx_treated u, gx_nodes u, gx_following u, gx_marked u, gx_bucket u, gx_now u, gx_next u, gx_layer u, wl, wo, wt, wp, ww, gx_memoStamp u, gx_memoOne u, gx_memoTwo u, gx_memoLevel u, gx_memoGot u)
def sx_dg (u : SX) (d g : Int32) : SX := (gx_active u, gx_outPlace u, gx_outHeader u, gx_freeNode u, gx_freeCount u, gx_keptDiagram u, d, g, gx_stamp u, gx_links u, gx_ruleCount u, gx_matches u, gx_actions u, gx_changes u, gx_states u, gx_places u, gx_headers u, gx_tables u, gx_treated u, gx_nodes u, gx_following u, gx_marked u, gx_bucket u, gx_now u, gx_next u, gx_layer u, gx_workLevel u, gx_workOne u, gx_workTwo u, gx_workPhase u, gx_workLow u, gx_memoStamp u, gx_memoOne u, gx_memoTwo u, gx_memoLevel u, gx_memoGot u)
def sx_memo (u : SX) (ms mo mt ml mg : Nat → Int32) : SX := (gx_active u, gx_outPlace u, gx_outHeader u, gx_freeNode u, gx_freeCount u, gx_keptDiagram u, gx_depth u, gx_got u, gx_stamp u, gx_links u, gx_ruleCount u, gx_matches u, gx_actions u, gx_changes u, gx_states u, gx_places u, gx_headers u, gx_tables u, gx_treated u, gx_nodes u, gx_following u, gx_marked u, gx_bucket u, gx_now u, gx_next u, gx_layer u, gx_workLevel u, gx_workOne u, gx_workTwo u, gx_workPhase u, gx_workLow u, ms, mo, mt, ml, mg)
def sx_mark (u : SX) (m : Nat → Int32) : SX := (gx_active u, gx_outPlace u, gx_outHeader u, gx_freeNode u, gx_freeCount u, gx_keptDiagram u, gx_depth u, gx_got u, gx_stamp u, gx_links u, gx_ruleCount u, gx_matches u, gx_actions u, gx_changes u, gx_states u, gx_places u, gx_headers u, gx_tables u, gx_treated u, gx_nodes u, gx_following u, m, gx_bucket u, gx_now u, gx_next u, gx_layer u, gx_workLevel u, gx_workOne u, gx_workTwo u, gx_workPhase u, gx_workLow u, gx_memoStamp u, gx_memoOne u, gx_memoTwo u, gx_memoLevel u, gx_memoGot u)
def sx_now (u : SX) (m : Nat → Int32) : SX := (gx_active u, gx_outPlace u, gx_outHeader u, gx_freeNode u, gx_freeCount u, gx_keptDiagram u, gx_depth u, gx_got u, gx_stamp u, gx_links u, gx_ruleCount u, gx_matches u, gx_actions u, gx_changes u, gx_states u, gx_places u, gx_headers u, gx_tables u, gx_treated u, gx_nodes u, gx_following u, gx_marked u, gx_bucket u, m, gx_next u, gx_layer u, gx_workLevel u, gx_workOne u, gx_workTwo u, gx_workPhase u, gx_workLow u, gx_memoStamp u, gx_memoOne u, gx_memoTwo u, gx_memoLevel u, gx_memoGot u)
def sx_next (u : SX) (m : Nat → Int32) : SX := (gx_active u, gx_outPlace u, gx_outHeader u, gx_freeNode u, gx_freeCount u, gx_keptDiagram u, gx_depth u, gx_got u, gx_stamp u, gx_links u, gx_ruleCount u, gx_matches u, gx_actions u, gx_changes u, gx_states u, gx_places u, gx_headers u, gx_tables u, gx_treated u, gx_nodes u, gx_following u, gx_marked u, gx_bucket u, gx_now u, m, gx_layer u, gx_workLevel u, gx_workOne u, gx_workTwo u, gx_workPhase u, gx_workLow u, gx_memoStamp u, gx_memoOne u, gx_memoTwo u, gx_memoLevel u, gx_memoGot u)
def sx_layer (u : SX) (m : Nat → Int32) : SX := (gx_active u, gx_outPlace u, gx_outHeader u, gx_freeNode u, gx_freeCount u, gx_keptDiagram u, gx_depth u, gx_got u, gx_stamp u, gx_links u, gx_ruleCount u, gx_matches u, gx_actions u, gx_changes u, gx_states u, gx_places u, gx_headers u, gx_tables u, gx_treated u, gx_nodes u, gx_following u, gx_marked u, gx_bucket u, gx_now u, gx_next u, m, gx_workLevel u, gx_workOne u, gx_workTwo u, gx_workPhase u, gx_workLow u, gx_memoStamp u, gx_memoOne u, gx_memoTwo u, gx_memoLevel u, gx_memoGot u)
def sx_kept (u : SX) (x : Int32) : SX := (gx_active u, gx_outPlace u, gx_outHeader u, gx_freeNode u, gx_freeCount u, x, gx_depth u, gx_got u, gx_stamp u, gx_links u, gx_ruleCount u, gx_matches u, gx_actions u, gx_changes u, gx_states u, gx_places u, gx_headers u, gx_tables u, gx_treated u, gx_nodes u, gx_following u, gx_marked u, gx_bucket u, gx_now u, gx_next u, gx_layer u, gx_workLevel u, gx_workOne u, gx_workTwo u, gx_workPhase u, gx_workLow u, gx_memoStamp u, gx_memoOne u, gx_memoTwo u, gx_memoLevel u, gx_memoGot u)
def sx_ds (u : SX) (d s : Int32) : SX := (gx_active u, gx_outPlace u, gx_outHeader u, gx_freeNode u, gx_freeCount u, gx_keptDiagram u, d, gx_got u, s, gx_links u, gx_ruleCount u, gx_matches u, gx_actions u, gx_changes u, gx_states u, gx_places u, gx_headers u, gx_tables u, gx_treated u, gx_nodes u, gx_following u, gx_marked u, gx_bucket u, gx_now u, gx_next u, gx_layer u, gx_workLevel u, gx_workOne u, gx_workTwo u, gx_workPhase u, gx_workLow u, gx_memoStamp u, gx_memoOne u, gx_memoTwo u, gx_memoLevel u, gx_memoGot u)
def sx_depth (u : SX) (d : Int32) : SX := (gx_active u, gx_outPlace u, gx_outHeader u, gx_freeNode u, gx_freeCount u, gx_keptDiagram u, d, gx_got u, gx_stamp u, gx_links u, gx_ruleCount u, gx_matches u, gx_actions u, gx_changes u, gx_states u, gx_places u, gx_headers u, gx_tables u, gx_treated u, gx_nodes u, gx_following u, gx_marked u, gx_bucket u, gx_now u, gx_next u, gx_layer u, gx_workLevel u, gx_workOne u, gx_workTwo u, gx_workPhase u, gx_workLow u, gx_memoStamp u, gx_memoOne u, gx_memoTwo u, gx_memoLevel u, gx_memoGot u)
def sy_links (u : SY) (l : Nat → Int32) : SY := (gy_active u, gy_outPlace u, gy_outHeader u, gy_seen u, l, gy_sizes u, gy_matches u, gy_actions u, gy_changes u, gy_states u, gy_places u, gy_headers u, gy_tables u, gy_treated u)
def sy_rules (u : SY) (c m a h : Nat → Int32) : SY := (gy_active u, gy_outPlace u, gy_outHeader u, gy_seen u, gy_links u, c, m, a, h, gy_states u, gy_places u, gy_headers u, gy_tables u, gy_treated u)
def sy_act (u : SY) (x : Int32) : SY := (x, gy_outPlace u, gy_outHeader u, gy_seen u, gy_links u, gy_sizes u, gy_matches u, gy_actions u, gy_changes u, gy_states u, gy_places u, gy_headers u, gy_tables u, gy_treated u)
def sy_pk (u : SY) (st pl hd tb tr : Nat → Int32) : SY := (gy_active u, gy_outPlace u, gy_outHeader u, gy_seen u, gy_links u, gy_sizes u, gy_matches u, gy_actions u, gy_changes u, st, pl, hd, tb, tr)
def sy_out (u : SY) (p h : Int32) : SY := (gy_active u, p, h, gy_seen u, gy_links u, gy_sizes u, gy_matches u, gy_actions u, gy_changes u, gy_states u, gy_places u, gy_headers u, gy_tables u, gy_treated u)
def sy_ohs (u : SY) (p h s : Int32) : SY := (gy_active u, p, h, s, gy_links u, gy_sizes u, gy_matches u, gy_actions u, gy_changes u, gy_states u, gy_places u, gy_headers u, gy_tables u, gy_treated u)
/-- what no work on diagrams changes -/
def bx_C (u : SX) := (gx_active u, gx_outPlace u, gx_outHeader u, gx_links u, gx_ruleCount u, gx_matches u, gx_actions u, gx_changes u, gx_states u, gx_places u, gx_headers u, gx_tables u, gx_treated u)
/-- the diagrams that are held -/
def bx_D (u : SX) := (gx_keptDiagram u, gx_now u, gx_next u, gx_layer u)
/-- the store of nodes -/
def bx_S (u : SX) : Int32 × Int32 × (Nat → Int32) × (Nat → Int32) × (Nat → Int32) := (gx_freeNode u, gx_freeCount u, gx_nodes u, gx_following u, gx_bucket u)
/-- the memo -/
def bx_M (u : SX) : Int32 × (Nat → Int32) × (Nat → Int32) × (Nat → Int32) × (Nat → Int32) × (Nat → Int32) := (gx_stamp u, gx_memoStamp u, gx_memoOne u, gx_memoTwo u, gx_memoLevel u, gx_memoGot u)
/-- the work under way -/
def bx_W (u : SX) : Int32 × (Nat → Int32) × (Nat → Int32) × (Nat → Int32) × (Nat → Int32) × (Nat → Int32) := (gx_depth u, gx_workLevel u, gx_workOne u, gx_workTwo u, gx_workPhase u, gx_workLow u)
end
section
/-! diagrams as numbers: a node's content is level, low, high -/
def dg_lv (x : Nat) : Nat := x / 16777216
def dg_lo (x : Nat) : Nat := x / 4096 % 4096
def dg_hi (x : Nat) : Nat := x % 4096
theorem dg_lv_mk {l a b : Nat} (ha : a < 4096) (hb : b < 4096) : dg_lv (l * 16777216 + a * 4096 + b) = l := by unfold dg_lv; omega
theorem dg_lo_mk {l a b : Nat} (ha : a < 4096) (hb : b < 4096) : dg_lo (l * 16777216 + a * 4096 + b) = a := by unfold dg_lo; omega
theorem dg_hi_mk {l a b : Nat} (hb : b < 4096) : dg_hi (l * 16777216 + a * 4096 + b) = b := by unfold dg_hi; omega
theorem dg_eta (x : Nat) : dg_lv x * 16777216 + dg_lo x * 4096 + dg_hi x = x := by unfold dg_lv dg_lo dg_hi; omega
theorem dg_lo_lt (x : Nat) : dg_lo x < 4096 := by unfold dg_lo; omega
theorem dg_hi_lt (x : Nat) : dg_hi x < 4096 := by unfold dg_hi; omega
theorem dg_inj {x y : Nat} (h1 : dg_lv x = dg_lv y) (h2 : dg_lo x = dg_lo y) (h3 : dg_hi x = dg_hi y) : x = y := by
  rw [← dg_eta x, ← dg_eta y, h1, h2, h3]
def dg_hf (nd : Nat → Nat) (n L : Nat) (b : Bool) : Nat := if dg_lv (nd n) = L then (if b = true then dg_hi (nd n) else dg_lo (nd n)) else n
def dg_ev (nd : Nat → Nat) : Nat → Nat → Nat → Nat
  | 0, n, _ => dg_lo (nd n)
  | k + 1, n, h => dg_ev nd k (dg_hf nd n (5 - k) (h.testBit k)) h
def dg_Cv (nd : Nat → Nat) (al : Nat → Prop) (c : Nat) : Prop := (dg_lv c = 6 ∧ dg_lo c < 384 ∧ dg_hi c = 0) ∨ (dg_lv c < 6 ∧ al (dg_lo c) ∧ al (dg_hi c) ∧ dg_lo c ≠ dg_hi c ∧ dg_lv c < dg_lv (nd (dg_lo c)) ∧ dg_lv c < dg_lv (nd (dg_hi c)))
def dg_Ok (nd : Nat → Nat) (al : Nat → Prop) (n : Nat) : Prop := n < 4096 ∧ dg_Cv nd al (nd n)
def dg_Wd (nd : Nat → Nat) (al : Nat → Prop) : Prop := ∀ n, al n → dg_Ok nd al n
section
variable {nd nd' : Nat → Nat} {al al' : Nat → Prop}
theorem dg_lt (W : dg_Wd nd al) {n : Nat} (hn : al n) : n < 4096 := (W n hn).1
theorem dg_le6 (W : dg_Wd nd al) {n : Nat} (hn : al n) : dg_lv (nd n) ≤ 6 := by
  rcases (W n hn).2 with h | h
  · omega
  · omega
theorem dg_inner (W : dg_Wd nd al) {n : Nat} (hn : al n) (h : dg_lv (nd n) < 6) : al (dg_lo (nd n)) ∧ al (dg_hi (nd n)) ∧ dg_lo (nd n) ≠ dg_hi (nd n) ∧ dg_lv (nd n) < dg_lv (nd (dg_lo (nd n))) ∧ dg_lv (nd n) < dg_lv (nd (dg_hi (nd n))) := by
  rcases (W n hn).2 with h1 | h1
  · exact absurd h1.1 (by omega)
  · exact h1.2
theorem dg_leaf (W : dg_Wd nd al) {n : Nat} (hn : al n) (h : ¬ dg_lv (nd n) < 6) : dg_lv (nd n) = 6 ∧ dg_lo (nd n) < 384 ∧ dg_hi (nd n) = 0 := by
  rcases (W n hn).2 with h1 | h1
  · exact h1
  · exact absurd h1.1 h
theorem dg_hf_al (W : dg_Wd nd al) {n : Nat} (hn : al n) {L : Nat} (hL : L < 6) (b : Bool) : al (dg_hf nd n L b) := by
  unfold dg_hf
  by_cases h : dg_lv (nd n) = L
  · rw [if_pos h]
    have h2 := dg_inner W hn (by omega)
    cases b
    · rw [if_neg (by decide)]; exact h2.1
    · rw [if_pos rfl]; exact h2.2.1
  · rw [if_neg h]; exact hn
theorem dg_hf_lv (W : dg_Wd nd al) {n : Nat} (hn : al n) {L : Nat} (hL : L < 6) (b : Bool) (hl : L ≤ dg_lv (nd n)) : L + 1 ≤ dg_lv (nd (dg_hf nd n L b)) := by
  unfold dg_hf
  by_cases h : dg_lv (nd n) = L
  · rw [if_pos h]
    have h2 := dg_inner W hn (by omega)
    cases b
    · rw [if_neg (by decide)]; omega
    · rw [if_pos rfl]; omega
  · rw [if_neg h]; omega
theorem dg_hf_ext {n : Nat} (e : nd' n = nd n) (L : Nat) (b : Bool) : dg_hf nd' n L b = dg_hf nd n L b := by unfold dg_hf; rw [e]
theorem dg_ev_ext (W : dg_Wd nd al) (E : ∀ n, al n → nd' n = nd n) : ∀ k, k ≤ 6 → ∀ n, al n → ∀ h, dg_ev nd' k n h = dg_ev nd k n h := by
  intro k
  induction k with
  | zero => intro _ n hn h; show dg_lo (nd' n) = dg_lo (nd n); rw [E n hn]
  | succ k ih =>
    intro hk n hn h
    show dg_ev nd' k (dg_hf nd' n (5 - k) (h.testBit k)) h = dg_ev nd k (dg_hf nd n (5 - k) (h.testBit k)) h
    rw [dg_hf_ext (E n hn)]
    exact ih (by omega) _ (dg_hf_al W hn (by omega) _) h
theorem dg_ev_bits (nd : Nat → Nat) : ∀ k n h h', (∀ j, j < k → h.testBit j = h'.testBit j) → dg_ev nd k n h = dg_ev nd k n h' := by
  intro k
  induction k with
  | zero => intro n h h' _; rfl
  | succ k ih =>
    intro n h h' H
    show dg_ev nd k (dg_hf nd n (5 - k) (h.testBit k)) h = dg_ev nd k (dg_hf nd n (5 - k) (h'.testBit k)) h'
    rw [H k (by omega)]
    exact ih _ _ _ (fun j hj => H j (by omega))
theorem dg_ev_skip1 {k n : Nat} (hl : dg_lv (nd n) ≠ 5 - k) (h : Nat) : dg_ev nd (k + 1) n h = dg_ev nd k n h := by
  show dg_ev nd k (dg_hf nd n (5 - k) (h.testBit k)) h = _
  unfold dg_hf
  rw [if_neg hl]
theorem dg_ev_skip {k n : Nat} (hl : 6 - k ≤ dg_lv (nd n)) (h : Nat) : ∀ j, k + j ≤ 6 → dg_ev nd (k + j) n h = dg_ev nd k n h := by
  intro j
  induction j with
  | zero => intro _; rfl
  | succ j ih =>
    intro hj
    rw [← Nat.add_assoc, dg_ev_skip1 (by omega), ih (by omega)]
theorem dg_ev_node {k r : Nat} (hl : dg_lv (nd r) = 5 - k) (h : Nat) : dg_ev nd (k + 1) r h = if h.testBit k = true then dg_ev nd k (dg_hi (nd r)) h else dg_ev nd k (dg_lo (nd r)) h := by
  show dg_ev nd k (dg_hf nd r (5 - k) (h.testBit k)) h = _
  unfold dg_hf
  rw [if_pos hl]
  by_cases hb : h.testBit k = true
  · rw [if_pos hb, if_pos hb]
  · rw [if_neg hb, if_neg hb]
theorem dg_ev_leaf {n : Nat} (hl : dg_lv (nd n) = 6) (k h : Nat) (hk : k ≤ 6) : dg_ev nd k n h = dg_lo (nd n) := by
  have := dg_ev_skip (nd := nd) (k := 0) (n := n) (by omega) h k (by omega)
  rw [Nat.zero_add] at this
  exact this
/-- equal functions, one node -/
theorem dg_canon (W : dg_Wd nd al) (U : ∀ n m, al n → al m → nd n = nd m → n = m) : ∀ k, k ≤ 6 → ∀ n m, al n → al m → 6 - k ≤ dg_lv (nd n) → 6 - k ≤ dg_lv (nd m) → (∀ h, h < 2 ^ k → dg_ev nd k n h = dg_ev nd k m h) → n = m := by
  intro k
  induction k with
  | zero =>
    intro _ n m hn hm ln lm H
    have h1 := dg_leaf W hn (by omega)
    have h2 := dg_leaf W hm (by omega)
    have h3 : dg_lo (nd n) = dg_lo (nd m) := H 0 (by decide)
    exact U n m hn hm (dg_inj (by omega) h3 (by omega))
  | succ k ih =>
    intro hk n m hn hm ln lm H
    have H0 : ∀ h, h < 2 ^ k → dg_ev nd k (dg_hf nd n (5 - k) false) h = dg_ev nd k (dg_hf nd m (5 - k) false) h := by
      intro h hh
      have e : h.testBit k = false := Nat.testBit_lt_two_pow hh
      have := H h (by rw [Nat.pow_succ]; omega)
      change dg_ev nd k (dg_hf nd n (5 - k) (h.testBit k)) h = dg_ev nd k (dg_hf nd m (5 - k) (h.testBit k)) h at this
      rw [e] at this
      exact this
    have H1 : ∀ h, h < 2 ^ k → dg_ev nd k (dg_hf nd n (5 - k) true) h = dg_ev nd k (dg_hf nd m (5 - k) true) h := by
      intro h hh
      have e : (2 ^ k + h).testBit k = true := by rw [Nat.testBit_two_pow_add_eq, Nat.testBit_lt_two_pow hh]; rfl
      have := H (2 ^ k + h) (by rw [Nat.pow_succ]; omega)
      change dg_ev nd k (dg_hf nd n (5 - k) ((2 ^ k + h).testBit k)) (2 ^ k + h) = dg_ev nd k (dg_hf nd m (5 - k) ((2 ^ k + h).testBit k)) (2 ^ k + h) at this
      rw [e] at this
      have eb : ∀ j, j < k → (2 ^ k + h).testBit j = h.testBit j := fun j hj => Nat.testBit_two_pow_add_gt hj h
      rw [dg_ev_bits nd k _ _ h eb, dg_ev_bits nd k _ _ h eb] at this
      exact this
    have E0 := ih (by omega) _ _ (dg_hf_al W hn (by omega) false) (dg_hf_al W hm (by omega) false) (by have := dg_hf_lv W hn (L := 5 - k) (by omega) false (by omega); omega) (by have := dg_hf_lv W hm (L := 5 - k) (by omega) false (by omega); omega) H0
    have E1 := ih (by omega) _ _ (dg_hf_al W hn (by omega) true) (dg_hf_al W hm (by omega) true) (by have := dg_hf_lv W hn (L := 5 - k) (by omega) true (by omega); omega) (by have := dg_hf_lv W hm (L := 5 - k) (by omega) true (by omega); omega) H1
    unfold dg_hf at E0 E1
    by_cases h1 : dg_lv (nd n) = 5 - k
    · have in1 := dg_inner W hn (by omega)
      by_cases h2 : dg_lv (nd m) = 5 - k
      · rw [if_pos h1, if_pos h2, if_neg (by decide), if_neg (by decide)] at E0
        rw [if_pos h1, if_pos h2, if_pos rfl, if_pos rfl] at E1
        exact U n m hn hm (dg_inj (by omega) E0 E1)
      · rw [if_pos h1, if_neg h2, if_neg (by decide)] at E0
        rw [if_pos h1, if_neg h2, if_pos rfl] at E1
        exact absurd (E0.trans E1.symm) in1.2.2.1
    · by_cases h2 : dg_lv (nd m) = 5 - k
      · have in2 := dg_inner W hm (by omega)
        rw [if_neg h1, if_pos h2, if_neg (by decide)] at E0
        rw [if_neg h1, if_pos h2, if_pos rfl] at E1
        exact absurd (E0.symm.trans E1) in2.2.2.1
      · rw [if_neg h1, if_neg h2] at E0
        exact E0
end
/-! a match, bit by bit -/
def mt_b (m h : Nat) : Nat → Bool
  | 0 => true
  | k + 1 => (!(m.testBit (k + 6)) || (h.testBit k == m.testBit k)) && mt_b m h k
theorem mt_all {m h : Nat} : ∀ k, mt_b m h k = true ↔ ∀ j, j < k → m.testBit (j + 6) = true → h.testBit j = m.testBit j := by
  intro k
  induction k with
  | zero => exact ⟨fun _ j hj => absurd hj (by omega), fun _ => rfl⟩
  | succ k ih =>
    show ((!(m.testBit (k + 6)) || (h.testBit k == m.testBit k)) && mt_b m h k) = true ↔ _
    rw [Bool.and_eq_true, ih]
    constructor
    · rintro ⟨h1, h2⟩ j hj hm
      by_cases e : j = k
      · subst e
        rw [hm] at h1
        simpa using h1
      · exact h2 j (by omega) hm
    · intro H
      refine ⟨?_, fun j hj => H j (by omega)⟩
      cases e : m.testBit (k + 6)
      · rfl
      · have := H k (by omega) e
        rw [this]
        simp
theorem mt_ext {m h h' : Nat} : ∀ k, (∀ j, j < k → h.testBit j = h'.testBit j) → mt_b m h k = mt_b m h' k := by
  intro k
  induction k with
  | zero => intro _; rfl
  | succ k ih =>
    intro H
    show ((!(m.testBit (k + 6)) || (h.testBit k == m.testBit k)) && mt_b m h k) = ((!(m.testBit (k + 6)) || (h'.testBit k == m.testBit k)) && mt_b m h' k)
    rw [H k (by omega), ih (fun j hj => H j (by omega))]
theorem mt_rest {m h k : Nat} (H : m / 64 % 2 ^ k = 0) : mt_b m h k = true := by
  rw [mt_all]
  intro j hj hm
  have : (m / 64 % 2 ^ k).testBit j = true := by
    rw [Nat.testBit_mod_two_pow, decide_eq_true hj, show (64 : Nat) = 2 ^ 6 from rfl, Nat.testBit_div_two_pow, hm]
    rfl
  rw [H, Nat.zero_testBit] at this
  exact absurd this (by decide)
theorem mt_s1 {m h k : Nat} (hc : m.testBit (k + 6) = true) : mt_b m h (k + 1) = ((h.testBit k == m.testBit k) && mt_b m h k) := by
  show ((!(m.testBit (k + 6)) || (h.testBit k == m.testBit k)) && mt_b m h k) = _
  rw [hc]; rfl
theorem mt_s0 {m h k : Nat} (hc : m.testBit (k + 6) = false) : mt_b m h (k + 1) = mt_b m h k := by
  show ((!(m.testBit (k + 6)) || (h.testBit k == m.testBit k)) && mt_b m h k) = _
  rw [hc]; rfl
/-! a change of a header -/
def ch_v (c h : Nat) : Nat := h ^^^ ((h ^^^ c) &&& (c / 64))
theorem ch_bit (c h j : Nat) : (ch_v c h).testBit j = if c.testBit (j + 6) = true then c.testBit j else h.testBit j := by
  unfold ch_v
  rw [Nat.testBit_xor, Nat.testBit_and, Nat.testBit_xor, show (64 : Nat) = 2 ^ 6 from rfl, Nat.testBit_div_two_pow]
  cases c.testBit (j + 6) <;> cases c.testBit j <;> cases h.testBit j <;> rfl
theorem ch_lt {c h : Nat} (hc : c < 4096) (hh : h < 64) : ch_v c h < 64 := by
  rw [show (64 : Nat) = 2 ^ 6 from rfl]
  apply Nat.lt_pow_two_of_testBit
  intro j hj
  rw [ch_bit, Nat.testBit_lt_two_pow (show c < 2 ^ (j + 6) from Nat.lt_of_lt_of_le hc (by rw [show (4096 : Nat) = 2 ^ 12 from rfl]; exact Nat.pow_le_pow_right (by decide) (by omega))), if_neg (by decide)]
  exact Nat.testBit_lt_two_pow (Nat.lt_of_lt_of_le hh (by rw [show (64 : Nat) = 2 ^ 6 from rfl]; exact Nat.pow_le_pow_right (by decide) hj))
/-! counts -/
def cn_t : Nat → (Nat → Bool) → Nat
  | 0, f => if f 0 = true then 1 else 0
  | k + 1, f => cn_t k f + cn_t k (fun h => f (2 ^ k + h))
def cn_r : Nat → (Nat → Bool) → Nat
  | 0, _ => 0
  | n + 1, f => cn_r n f + (if f n = true then 1 else 0)
theorem cn_r_add (f : Nat → Bool) (a : Nat) : ∀ b, cn_r (a + b) f = cn_r a f + cn_r b (fun h => f (a + h)) := by
  intro b
  induction b with
  | zero => rfl
  | succ b ih =>
    show cn_r (a + b) f + (if f (a + b) = true then 1 else 0) = cn_r a f + (cn_r b (fun h => f (a + h)) + (if f (a + b) = true then 1 else 0))
    rw [ih]; omega
theorem cn_tr : ∀ k f, cn_t k f = cn_r (2 ^ k) f := by
  intro k
  induction k with
  | zero => intro f; show (if f 0 = true then 1 else 0) = 0 + (if f 0 = true then 1 else 0); omega
  | succ k ih =>
    intro f
    show cn_t k f + cn_t k (fun h => f (2 ^ k + h)) = _
    rw [ih, ih, ← cn_r_add, Nat.pow_succ, Nat.mul_two]
theorem cn_t_cg : ∀ k f g, (∀ h, h < 2 ^ k → f h = g h) → cn_t k f = cn_t k g := by
  intro k
  induction k with
  | zero => intro f g H; show (if f 0 = true then 1 else 0) = (if g 0 = true then 1 else 0); rw [H 0 (by decide)]
  | succ k ih =>
    intro f g H
    show cn_t k f + cn_t k (fun h => f (2 ^ k + h)) = cn_t k g + cn_t k (fun h => g (2 ^ k + h))
    rw [ih f g (fun h hh => H h (by rw [Nat.pow_succ]; omega)), ih (fun h => f (2 ^ k + h)) (fun h => g (2 ^ k + h)) (fun h hh => H (2 ^ k + h) (by rw [Nat.pow_succ]; omega))]
theorem cn_r_le (f : Nat → Bool) : ∀ n, cn_r n f ≤ n := by
  intro n
  induction n with
  | zero => exact Nat.le_refl 0
  | succ n ih =>
    show cn_r n f + (if f n = true then 1 else 0) ≤ n + 1
    by_cases h : f n = true
    · rw [if_pos h]; omega
    · rw [if_neg h]; omega
theorem cn_r_cg (f g : Nat → Bool) : ∀ n, (∀ h, h < n → f h = g h) → cn_r n f = cn_r n g := by
  intro n
  induction n with
  | zero => intro _; rfl
  | succ n ih =>
    intro H
    show cn_r n f + (if f n = true then 1 else 0) = cn_r n g + (if g n = true then 1 else 0)
    rw [ih (fun h hh => H h (by omega)), H n (by omega)]
end
section
/-! numbers: Int32 against naturals and their bits -/
theorem nb_bt {n i : Nat} (hi : i < 32) : bt (nI n) i = n.testBit i := by
  unfold bt
  show (BitVec.ofNat 32 n).getLsbD i = _
  rw [BitVec.getLsbD_ofNat, decide_eq_true hi, Bool.true_and]
theorem nb_or (a b : Nat) : nI a ||| nI b = nI (a ||| b) := by
  apply Int32.toBitVec_inj.1
  show BitVec.ofNat 32 a ||| BitVec.ofNat 32 b = BitVec.ofNat 32 (a ||| b)
  apply BitVec.eq_of_getLsbD_eq
  intro i hi
  simp [hi]
theorem nb_shr {n k : Nat} (h : n < 2 ^ 31) (hk : k < 32) : nI n >>> (nI k &&& 31) = nI (n / 2 ^ k) := pk_shrN h _ k (s_l k hk)
theorem nb_shr6 {n : Nat} (h : n < 2 ^ 31) : nI n >>> ((6 : Int32) &&& 31) = nI (n / 64) := nb_shr (k := 6) h (by decide)
theorem nb_shr2 {n : Nat} (h : n < 2 ^ 31) : nI n >>> ((2 : Int32) &&& 31) = nI (n / 4) := nb_shr (k := 2) h (by decide)
theorem nb_shr1 {n : Nat} (h : n < 2 ^ 31) : nI n >>> ((1 : Int32) &&& 31) = nI (n / 2) := nb_shr (k := 1) h (by decide)
theorem nb_shl {n k : Nat} (hk : k < 32) (h : n * 2 ^ k < 2 ^ 32) : nI n <<< (nI k &&& 31) = nI (n * 2 ^ k) := pk_shlN _ k (s_l k hk) h
theorem nb_leaf {v : Nat} (hv : v < 4096) : (100663296 : Int32) ||| (nI v <<< ((12 : Int32) &&& 31)) = nI (6 * 16777216 + v * 4096 + 0) := by
  have e : nI v <<< ((12 : Int32) &&& 31) = nI (v * 4096) := nb_shl (k := 12) (by decide) (by omega)
  rw [e]
  show nI 100663296 ||| nI (v * 4096) = _
  rw [nb_or]
  have h := Nat.shiftLeft_add_eq_or_of_lt (show v * 4096 < 2 ^ 24 by omega) 6
  rw [show (6 : Nat) <<< 24 = 100663296 from rfl] at h
  rw [← h]
  exact congrArg nI (by omega)
theorem nb_node {l a b : Nat} (hl : l < 7) (ha : a < 4096) (hb : b < 4096) : ((nI l <<< ((24 : Int32) &&& 31)) ||| (nI a <<< ((12 : Int32) &&& 31))) ||| nI b = nI (l * 16777216 + a * 4096 + b) := by
  have e1 : nI l <<< ((24 : Int32) &&& 31) = nI (l * 16777216) := nb_shl (k := 24) (by decide) (by omega)
  have e2 : nI a <<< ((12 : Int32) &&& 31) = nI (a * 4096) := nb_shl (k := 12) (by decide) (by omega)
  rw [e1, e2, nb_or, nb_or]
  have h1 := Nat.shiftLeft_add_eq_or_of_lt (show a * 4096 < 2 ^ 24 by omega) l
  rw [Nat.shiftLeft_eq, show (2 : Nat) ^ 24 = 16777216 from rfl] at h1
  rw [← h1]
  have h2 := Nat.shiftLeft_add_eq_or_of_lt (show b < 2 ^ 12 by omega) (l * 4096 + a)
  rw [Nat.shiftLeft_eq, show (2 : Nat) ^ 12 = 4096 from rfl] at h2
  rw [show l * 16777216 + a * 4096 = (l * 4096 + a) * 4096 by omega, ← h2]
theorem nb_lv {c : Nat} (h : c < 2 ^ 31) : nI c >>> ((24 : Int32) &&& 31) = nI (dg_lv c) := nb_shr (k := 24) h (by decide)
theorem nb_lo {c : Nat} (h : c < 2 ^ 31) : (nI c >>> ((12 : Int32) &&& 31)) &&& 4095 = nI (dg_lo c) := by
  have e : nI c >>> ((12 : Int32) &&& 31) = nI (c / 4096) := nb_shr (k := 12) h (by decide)
  rw [e]
  exact pk_andN (by omega) 12 (by decide)
theorem nb_hi {c : Nat} (h : c < 2 ^ 31) : nI c &&& 4095 = nI (dg_hi c) := pk_andN (by omega) 12 (by decide)
theorem nb_bitv {x k : Nat} (hx : x < 2 ^ 31) (hk : k < 32) : (nI x >>> (nI k &&& 31)) &&& 1 = nI (x.testBit k).toNat := by
  rw [nb_shr hx hk]
  show nI (x / 2 ^ k) &&& nI 1 = _
  rw [nx_and, Nat.and_one_is_mod, Nat.toNat_testBit]
theorem nb_bn (b : Bool) : nI b.toNat = 1 ↔ b = true := by cases b <;> decide
theorem nb_bn0 (b : Bool) : nI b.toNat = 0 ↔ b = false := by cases b <;> decide
theorem nb_bit1 {x k : Nat} (hx : x < 2 ^ 31) (hk : k < 32) : (nI x >>> (nI k &&& 31)) &&& 1 = 1 ↔ x.testBit k = true := by rw [nb_bitv hx hk, nb_bn]
theorem nb_bit0 {x k : Nat} (hx : x < 2 ^ 31) (hk : k < 32) : (nI x >>> (nI k &&& 31)) &&& 1 = 0 ↔ x.testBit k = false := by rw [nb_bitv hx hk, nb_bn0]
theorem nb_and0 {a b : Nat} (h : a &&& b < 2 ^ 31) : nI a &&& nI b = 0 ↔ a &&& b = 0 := by
  rw [nx_and, ← nI_0, nI_eq h (by decide)]
theorem nb_z {x : Nat} (hx : x < 64) : x = 0 ↔ ∀ j, j < 6 → x.testBit j = false := by
  constructor
  · intro h j _; rw [h, Nat.zero_testBit]
  · intro H
    apply Nat.eq_of_testBit_eq
    intro j
    rw [Nat.zero_testBit]
    by_cases h : j < 6
    · exact H j h
    · exact Nat.testBit_lt_two_pow (Nat.lt_of_lt_of_le hx (by rw [show (64 : Nat) = 2 ^ 6 from rfl]; exact Nat.pow_le_pow_right (by decide) (by omega)))
theorem nb_63 (j : Nat) (hj : j < 6) : (63 : Nat).testBit j = true := by
  have : ∀ j, j < 6 → (63 : Nat).testBit j = true := by decide
  exact this j hj
theorem nb_match {m h : Nat} (hm : m < 4096) (hh : h < 64) : ((nI h ^^^ nI m) &&& (nI m >>> ((6 : Int32) &&& 31))) &&& 63 = 0 ↔ mt_b m h 6 = true := by
  rw [nb_shr6 (by omega), nx_xor, nx_and]
  show nI _ &&& nI 63 = 0 ↔ _
  have hlt : ((h ^^^ m) &&& (m / 64)) &&& 63 < 64 := Nat.lt_succ_of_le Nat.and_le_right
  rw [nb_and0 (by omega), nb_z hlt, mt_all]
  have key : ∀ j, j < 6 → ((((h ^^^ m) &&& (m / 64)) &&& 63).testBit j = false ↔ (m.testBit (j + 6) = true → h.testBit j = m.testBit j)) := by
    intro j hj
    rw [Nat.testBit_and, Nat.testBit_and, Nat.testBit_xor, nb_63 j hj, show (64 : Nat) = 2 ^ 6 from rfl, Nat.testBit_div_two_pow]
    cases m.testBit (j + 6) <;> cases m.testBit j <;> cases h.testBit j <;> decide
  exact ⟨fun H j hj => (key j hj).mp (H j hj), fun H j hj => (key j hj).mpr (H j hj)⟩
theorem nb_matchY {m h : Nat} (hm : m < 4096) (hh : h < 64) : (nI h ^^^ (nI m &&& 63)) &&& (nI m >>> ((6 : Int32) &&& 31)) = 0 ↔ mt_b m h 6 = true := by
  rw [nb_shr6 (by omega)]
  show (nI h ^^^ (nI m &&& nI 63)) &&& nI (m / 64) = 0 ↔ _
  have hlt : (h ^^^ (m &&& 63)) &&& (m / 64) < 64 := Nat.lt_of_le_of_lt Nat.and_le_right (by omega)
  rw [nx_and, nx_xor, nb_and0 (by omega), nb_z hlt, mt_all]
  have key : ∀ j, j < 6 → (((h ^^^ (m &&& 63)) &&& (m / 64)).testBit j = false ↔ (m.testBit (j + 6) = true → h.testBit j = m.testBit j)) := by
    intro j hj
    rw [Nat.testBit_and, Nat.testBit_xor, Nat.testBit_and, nb_63 j hj, show (64 : Nat) = 2 ^ 6 from rfl, Nat.testBit_div_two_pow]
    cases m.testBit (j + 6) <;> cases m.testBit j <;> cases h.testBit j <;> decide
  exact ⟨fun H j hj => (key j hj).mp (H j hj), fun H j hj => (key j hj).mpr (H j hj)⟩
theorem nb_big {x i : Nat} (h : x < 64) (hi : 6 ≤ i) : x.testBit i = false := Nat.testBit_lt_two_pow (Nat.lt_of_lt_of_le h (by rw [show (64 : Nat) = 2 ^ 6 from rfl]; exact Nat.pow_le_pow_right (by decide) hi))
theorem nb_63' (i : Nat) : (63 : Nat).testBit i = decide (i < 6) := by
  by_cases h : i < 6
  · rw [nb_63 i h, decide_eq_true h]
  · rw [nb_big (by decide) (by omega), decide_eq_false h]
theorem nb_chX {c h : Nat} (hc : c < 4096) (hh : h < 64) : (nI h &&& ((nI c >>> ((6 : Int32) &&& 31)) ^^^ (-1))) ||| ((nI c &&& (nI c >>> ((6 : Int32) &&& 31))) &&& 63) = nI (ch_v c h) := by
  rw [nb_shr6 (by omega)]
  apply b_ext
  intro i hi
  show bt ((nI h &&& (nI (c / 64) ^^^ (-1))) ||| ((nI c &&& nI (c / 64)) &&& nI 63)) i = _
  rw [b_or, b_and, b_and, b_and, b_xor, b_m1 i hi, nb_bt hi, nb_bt hi, nb_bt hi, nb_bt hi, nb_bt hi, ch_bit, nb_63', show (64 : Nat) = 2 ^ 6 from rfl, Nat.testBit_div_two_pow]
  by_cases h6 : i < 6
  · rw [decide_eq_true h6]
    cases c.testBit (i + 6) <;> cases c.testBit i <;> cases h.testBit i <;> rfl
  · have e1 : c.testBit (i + 6) = false := by
      have := nb_big (x := c / 64) (i := i) (by omega) (by omega)
      rw [show (64 : Nat) = 2 ^ 6 from rfl, Nat.testBit_div_two_pow] at this
      exact this
    rw [e1, decide_eq_false h6]
    cases c.testBit i <;> cases h.testBit i <;> rfl
theorem nb_chY {c h : Nat} (hc : c < 4096) (hh : h < 64) : (nI h &&& ((nI c >>> ((6 : Int32) &&& 31)) ^^^ (-1))) ||| (nI c &&& (nI c >>> ((6 : Int32) &&& 31))) = nI (ch_v c h) := by
  rw [nb_shr6 (by omega)]
  apply b_ext
  intro i hi
  rw [b_or, b_and, b_and, b_xor, b_m1 i hi, nb_bt hi, nb_bt hi, nb_bt hi, nb_bt hi, ch_bit, show (64 : Nat) = 2 ^ 6 from rfl, Nat.testBit_div_two_pow]
  cases c.testBit (i + 6) <;> cases c.testBit i <;> cases h.testBit i <;> rfl
theorem nb_m4 {p : Nat} (hp : p < 20) : nI p &&& (-4) = nI (p / 4 * 4) := by
  have : ∀ p, p < 20 → nI p &&& (-4) = nI (p / 4 * 4) := by decide +kernel
  exact this p hp
theorem nb_rest {c k : Nat} (hc : c < 2 ^ 31) (hk : k ≤ 6) : nI c &&& (((1 : Int32) <<< ((6 - nI (6 - k)) &&& 31)) - 1) = nI (c % 2 ^ k) := by
  have e0 : (6 : Int32) - nI (6 - k) = nI k := by
    show nI 6 - nI (6 - k) = _
    rw [pk_sub (by omega)]
    exact congrArg nI (by omega)
  have e1 : (1 : Int32) <<< (nI k &&& 31) = nI (2 ^ k) := by
    have hk' : (2 : Nat) ^ k ≤ 2 ^ 6 := Nat.pow_le_pow_right (by decide) hk
    have := nb_shl (n := 1) (k := k) (by omega) (by omega)
    rw [Nat.one_mul] at this
    exact this
  rw [e0, e1]
  have e2 : nI (2 ^ k) - 1 = nI (2 ^ k - 1) := by
    show nI (2 ^ k) - nI 1 = _
    rw [pk_sub (Nat.two_pow_pos k)]
  rw [e2, nx_and, Nat.and_two_pow_sub_one_eq_mod]
theorem nb_5 {L : Nat} (h : L ≤ 5) : (5 : Int32) - nI L = nI (5 - L) := pk_sub (a := 5) h
def bk_f (x : Int32) : Nat := ((x ^^^ (x >>> ((7 : Int32) &&& 31))) ^^^ (x >>> ((15 : Int32) &&& 31))).toBitVec.toNat % 2 ^ 10
theorem bk_lt (x : Int32) : bk_f x < 1024 := Nat.mod_lt _ (by decide)
theorem bk_eq (x : Int32) : ((x ^^^ (x >>> ((7 : Int32) &&& 31))) ^^^ (x >>> ((15 : Int32) &&& 31))) &&& 1023 = nI (bk_f x) := pk_and _ 10 (by decide)
def mm_f (l a b : Int32) : Nat := (((a * 31) + (b * 7)) + l).toBitVec.toNat % 2 ^ 8
theorem mm_lt (l a b : Int32) : mm_f l a b < 256 := Nat.mod_lt _ (by decide)
theorem mm_eq (l a b : Int32) : (((a * 31) + (b * 7)) + l) &&& 255 = nI (mm_f l a b) := pk_and _ 8 (by decide)
theorem nb_neg1 : (-1 : Int32) < 0 := by decide
theorem nb_m1lt (n : Nat) (h : n < 2 ^ 31) : ¬ nI n = -1 := by
  intro e
  have := nI_pos h
  rw [e] at this
  exact this (by decide)
theorem nb_ne {a b : Nat} (ha : a < 2 ^ 31) (hb : b < 2 ^ 31) (h : a ≠ b) : ¬ nI a = nI b := fun e => h ((nI_eq ha hb).mp e)
/-- the arguments that a call turns away -/
def bd_o (N : Nat) (x : Int32) : Prop := x < 0 ∨ nI N ≤ x
theorem bd_or (N : Nat) (hN : N < 2 ^ 31) (x : Int32) : bd_o N x ∨ ∃ j, j < N ∧ x = nI j := by
  rcases pk_ix x hN with h | h | h
  · exact Or.inl (Or.inl h)
  · exact Or.inl (Or.inr h)
  · exact Or.inr h
end
section
/-! a table of rules, and what it does to a header -/
abbrev TB : Type := (Nat → Nat) × (Nat → Nat) × (Nat → Nat) × (Nat → Nat)
def tb_c (T : TB) : Nat → Nat := T.1
def tb_m (T : TB) : Nat → Nat := T.2.1
def tb_a (T : TB) : Nat → Nat := T.2.2.1
def tb_h (T : TB) : Nat → Nat := T.2.2.2
def tb_Ok (T : TB) : Prop := (∀ s, s < 5 → tb_c T s ≤ 6) ∧ (∀ j, j < 30 → tb_m T j < 4096 ∧ tb_a T j ≤ 5 ∧ tb_h T j < 4096)
def tb_Hd (c m a h : Nat → Int32) (t : Nat) (T : TB) : Prop := (∀ s, s < 5 → c (5 * t + s) = nI (tb_c T s)) ∧ ∀ j, j < 30 → m (30 * t + j) = nI (tb_m T j) ∧ a (30 * t + j) = nI (tb_a T j) ∧ h (30 * t + j) = nI (tb_h T j)
def tx_Hd (u : SX) (t : Nat) (T : TB) : Prop := tb_Hd (gx_ruleCount u) (gx_matches u) (gx_actions u) (gx_changes u) t T
def ty_Hd (v : SY) (t : Nat) (T : TB) : Prop := tb_Hd (gy_sizes v) (gy_matches v) (gy_actions v) (gy_changes v) t T
def fr_b (P : Nat → Bool) : Nat → Nat → Option Nat
  | 0, _ => none
  | n + 1, i => if P i = true then some i else fr_b P n (i + 1)
theorem fr_lt {P : Nat → Bool} : ∀ n i j, fr_b P n i = some j → i ≤ j ∧ j < n + i ∧ P j = true := by
  intro n
  induction n with
  | zero => intro i j h; exact absurd h (by simp [fr_b])
  | succ n ih =>
    intro i j h
    unfold fr_b at h
    by_cases hp : P i = true
    · rw [if_pos hp] at h
      cases h
      exact ⟨Nat.le_refl _, by omega, hp⟩
    · rw [if_neg hp] at h
      have := ih _ _ h
      exact ⟨by omega, by omega, this.2.2⟩
/-- rule i of switch s decides, but for rule b -/
def fr_P (T : TB) (s b h : Nat) (i : Nat) : Bool := !(i == b) && mt_b (tb_m T (6 * s + i)) h 6
def fr_x (T : TB) (s b h : Nat) : Option Nat := fr_b (fr_P T s b h) (tb_c T s) 0
def tr_r (T : TB) (p h i : Nat) : Option (Nat × Nat) := if tb_a T (6 * (p / 4) + i) = 4 then none else some (if tb_a T (6 * (p / 4) + i) = 5 then p else p / 4 * 4 + tb_a T (6 * (p / 4) + i), ch_v (tb_h T (6 * (p / 4) + i)) h)
def tr_o (T : TB) (b p h : Nat) : Option (Nat × Nat) := (fr_x T (p / 4) b h).bind (tr_r T p h)
def fw_g (lk : Nat → Option Nat) (T : TB) (st : Nat → Bool) (v0 vd : Nat) (va : Nat → Nat) : Nat → Nat → Nat → Nat
  | 0, _, _ => v0
  | k + 1, p, h => if st (p / 4) = true then 1 else (tr_o T 6 p h).elim vd (fun x => (lk x.1).elim (va x.1) (fun p' => fw_g lk T st v0 vd va k p' x.2))
def fw_e (lk : Nat → Option Nat) (T : TB) : Nat → Nat → Nat → Nat := fw_g lk T (fun _ => false) 2 1 (fun q => 100 + q)
def fw_s (lk : Nat → Option Nat) (T : TB) (s : Nat) : Nat → Nat → Nat → Nat := fw_g lk T (fun t => t == s) 0 0 (fun _ => 0)
/-- the links as an option: none, or a place -/
def lk_f (l : Nat → Int32) (p : Nat) : Option Nat := if l p < 0 then none else some (l p).toNatClampNeg
def lk_Ok (l : Nat → Int32) : Prop := ∀ p, p < 20 → l p = -1 ∨ ∃ q, q < 20 ∧ l p = nI q
theorem lk_cs {l : Nat → Int32} (H : lk_Ok l) {p : Nat} (hp : p < 20) : (lk_f l p = none ∧ l p = -1) ∨ ∃ q, q < 20 ∧ lk_f l p = some q ∧ l p = nI q := by
  rcases H p hp with h | ⟨q, hq, h⟩
  · refine Or.inl ⟨?_, h⟩
    unfold lk_f
    rw [h, if_pos (by decide)]
  · refine Or.inr ⟨q, hq, ?_, h⟩
    unfold lk_f
    rw [h, if_neg (nI_pos (by omega)), nI_clamp (by omega)]
theorem tr_lt {T : TB} (hT : tb_Ok T) {b p h q g : Nat} (hp : p < 20) (hh : h < 64) (e : tr_o T b p h = some (q, g)) : q < 20 ∧ g < 64 := by
  unfold tr_o at e
  cases e1 : fr_x T (p / 4) b h with
  | none => rw [e1] at e; exact absurd e (by simp)
  | some i =>
    rw [e1] at e
    change tr_r T p h i = some (q, g) at e
    have h1 := fr_lt _ _ _ e1
    have h2 := hT.1 (p / 4) (by omega)
    have h3 := hT.2 (6 * (p / 4) + i) (by omega)
    unfold tr_r at e
    by_cases h4 : tb_a T (6 * (p / 4) + i) = 4
    · rw [if_pos h4] at e; exact absurd e (by simp)
    · rw [if_neg h4] at e
      have e2 := Option.some.inj e
      have e3 := (Prod.mk.inj e2).1
      have e4 := (Prod.mk.inj e2).2
      rw [← e3, ← e4]
      refine ⟨?_, ch_lt h3.2.2 hh⟩
      by_cases h5 : tb_a T (6 * (p / 4) + i) = 5
      · rw [if_pos h5]; exact hp
      · rw [if_neg h5]; omega
theorem nb_6 (a b : Nat) : (6 : Int32) * nI a + nI b = nI (6 * a + b) := by
  show nI 6 * nI a + nI b = _
  rw [pk_mul, nI_add]
theorem nb_5m (a b : Nat) : (5 : Int32) * nI a + nI b = nI (5 * a + b) := by
  show nI 5 * nI a + nI b = _
  rw [pk_mul, nI_add]
theorem nb_30 (a b : Nat) : (30 : Int32) * nI a + nI b = nI (30 * a + b) := by
  show nI 30 * nI a + nI b = _
  rw [pk_mul, nI_add]
theorem xm_is {post : Int32 → Prop} {x : Int32} {m h : Nat} (hx : x = nI m) (hm : m < 4096) (hh : h < 64) (H1 : mt_b m h 6 = true → post 1) (H0 : mt_b m h 6 = false → post 0) : wpX_isMatch post x (nI h) := by
  subst hx
  exact br_c (fun e => H1 ((nb_match hm hh).mp e)) (fun e => H0 (by
    cases hb : mt_b m h 6
    · rfl
    · exact absurd ((nb_match hm hh).mpr hb) e))
theorem xr_l {u : SX} {T : TB} {t s h : Nat} (ht : t < 4) (hs : s < 5) (hh : h < 64) (hT : tb_Ok T) (H : tx_Hd u t T) (post : Int32 → Prop) : ∀ n i, n + i = tb_c T s → post ((fr_b (fr_P T s 6 h) n i).elim (-1) (fun j => nI (30 * t + 6 * s + j))) → wX_ruleFor_10 post (nI h) (nI (5 * t + s)) (gx_active u) (gx_outPlace u) (gx_outHeader u) (gx_freeNode u) (gx_freeCount u) (gx_keptDiagram u) (gx_depth u) (gx_got u) (gx_stamp u) (gx_links u) (gx_ruleCount u) (gx_matches u) (gx_actions u) (gx_changes u) (gx_states u) (gx_places u) (gx_headers u) (gx_tables u) (gx_treated u) (gx_nodes u) (gx_following u) (gx_marked u) (gx_bucket u) (gx_now u) (gx_next u) (gx_layer u) (gx_workLevel u) (gx_workOne u) (gx_workTwo u) (gx_workPhase u) (gx_workLow u) (gx_memoStamp u) (gx_memoOne u) (gx_memoTwo u) (gx_memoLevel u) (gx_memoGot u) (n + 1) (nI i) := by
  have hc : gx_ruleCount u (nI (5 * t + s)).toNatClampNeg = nI (tb_c T s) := by rw [nI_clamp (by omega)]; exact H.1 s hs
  have h6 := hT.1 s hs
  intro n
  induction n with
  | zero =>
    intro i hi hp
    exact And.intro (vp_in_nI (by omega) (by decide)) (pk_le (tb_c T s) i (fun _ => hp) (fun h => absurd h (by omega)) hc rfl)
  | succ n ih =>
    intro i hi hp
    have e : (6 : Int32) * nI (5 * t + s) + nI i = nI (30 * t + 6 * s + i) := by rw [nb_6]; exact congrArg nI (by omega)
    have hm : gx_matches u ((6 : Int32) * nI (5 * t + s) + nI i).toNatClampNeg = nI (tb_m T (6 * s + i)) := by
      rw [e, nI_clamp (by omega), Nat.add_assoc]; exact (H.2 (6 * s + i) (by omega)).1
    have hP : fr_P T s 6 h i = mt_b (tb_m T (6 * s + i)) h 6 := by
      unfold fr_P
      rw [show (i == 6) = false from by rw [beq_eq_false_iff_ne]; omega]
      rfl
    refine And.intro (vp_in_nI (by omega) (by decide)) (pk_le (tb_c T s) i (fun h => absurd h (by omega)) (fun _ => And.intro (pk_in (30 * t + 6 * s + i) 120 (by omega) e) ?_) hc rfl)
    refine xm_is hm (hT.2 (6 * s + i) (by omega)).1 hh ?_ ?_
    · intro hb
      refine br_f (by decide) ?_
      rw [e]
      unfold fr_b at hp
      rw [if_pos (hP.trans hb)] at hp
      exact hp
    · intro hb
      refine br_t rfl (nm_r (nI_1 i) ?_)
      refine ih (i + 1) (by omega) ?_
      unfold fr_b at hp
      rw [if_neg (by rw [hP, hb]; decide)] at hp
      exact hp
theorem xr_f {T : TB} {t s h : Nat} (ht : t < 4) (hs : s < 5) (hh : h < 64) (hT : tb_Ok T) (post : Int32 → Prop) : ∀ u : SX, tx_Hd u t T → post ((fr_x T s 6 h).elim (-1) (fun j => nI (30 * t + 6 * s + j))) → wpX_ruleFor post u (nI t) (nI s) (nI h) := by
  rintro ⟨f_active, f_outPlace, f_outHeader, f_freeNode, f_freeCount, f_keptDiagram, f_depth, f_got, f_stamp, a_links, a_ruleCount, a_matches, a_actions, a_changes, a_states, a_places, a_headers, a_tables, a_treated, a_nodes, a_following, a_marked, a_bucket, a_now, a_next, a_layer, a_workLevel, a_workOne, a_workTwo, a_workPhase, a_workLow, a_memoStamp, a_memoOne, a_memoTwo, a_memoLevel, a_memoGot⟩ H hp
  show ∃ n10 : Nat, wX_ruleFor_10 post (nI h) ((5 * nI t) + nI s) f_active f_outPlace f_outHeader f_freeNode f_freeCount f_keptDiagram f_depth f_got f_stamp a_links a_ruleCount a_matches a_actions a_changes a_states a_places a_headers a_tables a_treated a_nodes a_following a_marked a_bucket a_now a_next a_layer a_workLevel a_workOne a_workTwo a_workPhase a_workLow a_memoStamp a_memoOne a_memoTwo a_memoLevel a_memoGot n10 0
  rw [nb_5m]
  exact ⟨_, xr_l ht hs hh hT H post (tb_c T s) 0 rfl hp⟩
theorem xt_1 {post : Int32 → SX → Prop} {x z : Int32} {h i c q : Nat} (hc : c < 4096) (hh : h < 64) (hi : i < 120) (hz : z = nI q) : ∀ u : SX, gx_changes u i = nI c → x = nI i → post 1 (sx_out u (nI q) (nI (ch_v c h))) → wX_treat_57 post (nI h) x z (gx_active u) (gx_outPlace u) (gx_outHeader u) (gx_freeNode u) (gx_freeCount u) (gx_keptDiagram u) (gx_depth u) (gx_got u) (gx_stamp u) (gx_links u) (gx_ruleCount u) (gx_matches u) (gx_actions u) (gx_changes u) (gx_states u) (gx_places u) (gx_headers u) (gx_tables u) (gx_treated u) (gx_nodes u) (gx_following u) (gx_marked u) (gx_bucket u) (gx_now u) (gx_next u) (gx_layer u) (gx_workLevel u) (gx_workOne u) (gx_workTwo u) (gx_workPhase u) (gx_workLow u) (gx_memoStamp u) (gx_memoOne u) (gx_memoTwo u) (gx_memoLevel u) (gx_memoGot u) := by
  rintro ⟨f_active, f_outPlace, f_outHeader, f_freeNode, f_freeCount, f_keptDiagram, f_depth, f_got, f_stamp, a_links, a_ruleCount, a_matches, a_actions, a_changes, a_states, a_places, a_headers, a_tables, a_treated, a_nodes, a_following, a_marked, a_bucket, a_now, a_next, a_layer, a_workLevel, a_workOne, a_workTwo, a_workPhase, a_workLow, a_memoStamp, a_memoOne, a_memoTwo, a_memoLevel, a_memoGot⟩ e ex hp
  subst ex hz
  refine And.intro (vp_in_nI hi (by decide)) ?_
  show wpX_changed _ (a_changes (nI i).toNatClampNeg) (nI h)
  rw [nI_clamp (by omega), show a_changes i = nI c from e]
  refine nm_e ?_
  rw [nb_chX hc hh]
  exact hp
theorem xt_t {post : Int32 → SX → Prop} {T : TB} {t p h : Nat} (ht : t < 4) (hp : p < 20) (hh : h < 64) (hT : tb_Ok T) : ∀ u : SX, tx_Hd u t T → (tr_o T 6 p h = none → post 0 u) → (∀ q g, tr_o T 6 p h = some (q, g) → post 1 (sx_out u (nI q) (nI g))) → wpX_treat post u (nI t) (nI p) (nI h) := by
  rintro ⟨f_active, f_outPlace, f_outHeader, f_freeNode, f_freeCount, f_keptDiagram, f_depth, f_got, f_stamp, a_links, a_ruleCount, a_matches, a_actions, a_changes, a_states, a_places, a_headers, a_tables, a_treated, a_nodes, a_following, a_marked, a_bucket, a_now, a_next, a_layer, a_workLevel, a_workOne, a_workTwo, a_workPhase, a_workLow, a_memoStamp, a_memoOne, a_memoTwo, a_memoLevel, a_memoGot⟩ H H0 H1
  show wpX_ruleFor _ (f_active, f_outPlace, f_outHeader, f_freeNode, f_freeCount, f_keptDiagram, f_depth, f_got, f_stamp, a_links, a_ruleCount, a_matches, a_actions, a_changes, a_states, a_places, a_headers, a_tables, a_treated, a_nodes, a_following, a_marked, a_bucket, a_now, a_next, a_layer, a_workLevel, a_workOne, a_workTwo, a_workPhase, a_workLow, a_memoStamp, a_memoOne, a_memoTwo, a_memoLevel, a_memoGot) (nI t) (nI p >>> ((2 : Int32) &&& 31)) (nI h)
  rw [nb_shr2 (by omega)]
  refine xr_f ht (s := p / 4) (by omega) hh hT _ (f_active, f_outPlace, f_outHeader, f_freeNode, f_freeCount, f_keptDiagram, f_depth, f_got, f_stamp, a_links, a_ruleCount, a_matches, a_actions, a_changes, a_states, a_places, a_headers, a_tables, a_treated, a_nodes, a_following, a_marked, a_bucket, a_now, a_next, a_layer, a_workLevel, a_workOne, a_workTwo, a_workPhase, a_workLow, a_memoStamp, a_memoOne, a_memoTwo, a_memoLevel, a_memoGot) H ?_
  cases e : fr_x T (p / 4) 6 h with
  | none => exact br_t nb_neg1 (H0 (by unfold tr_o; rw [e]; rfl))
  | some i =>
    have h1 := fr_lt _ _ _ e
    have h2 := hT.1 (p / 4) (by omega)
    have h3 := hT.2 (6 * (p / 4) + i) (by omega)
    have h4 := H.2 (6 * (p / 4) + i) (by omega)
    have ea : a_actions (nI (30 * t + 6 * (p / 4) + i)).toNatClampNeg = nI (tb_a T (6 * (p / 4) + i)) := by
      rw [nI_clamp (by omega), Nat.add_assoc]; exact h4.2.1
    have ec : a_changes (30 * t + 6 * (p / 4) + i) = nI (tb_h T (6 * (p / 4) + i)) := by rw [Nat.add_assoc]; exact h4.2.2
    have er : tr_o T 6 p h = tr_r T p h i := by unfold tr_o; rw [e]; rfl
    have hv : vp_in (nI (30 * t + 6 * (p / 4) + i)) 120 := vp_in_nI (by omega) (by decide)
    refine br_f (nI_pos (by omega)) (And.intro hv (pk_eq (tb_a T (6 * (p / 4) + i)) 4 (fun z => ?_) (fun z => And.intro hv (pk_eq (tb_a T (6 * (p / 4) + i)) 5 (fun y => ?_) (fun y => And.intro hv ?_) ea rfl)) ea rfl))
    · exact H0 (by rw [er]; unfold tr_r; rw [if_pos z])
    · refine xt_1 h3.2.2 hh (i := 30 * t + 6 * (p / 4) + i) (q := p) (by omega) rfl (f_active, f_outPlace, f_outHeader, f_freeNode, f_freeCount, f_keptDiagram, f_depth, f_got, f_stamp, a_links, a_ruleCount, a_matches, a_actions, a_changes, a_states, a_places, a_headers, a_tables, a_treated, a_nodes, a_following, a_marked, a_bucket, a_now, a_next, a_layer, a_workLevel, a_workOne, a_workTwo, a_workPhase, a_workLow, a_memoStamp, a_memoOne, a_memoTwo, a_memoLevel, a_memoGot) ec rfl (H1 _ _ ?_)
      rw [er]; unfold tr_r; rw [if_neg z, if_pos y]
    · refine xt_1 h3.2.2 hh (i := 30 * t + 6 * (p / 4) + i) (q := p / 4 * 4 + tb_a T (6 * (p / 4) + i)) (by omega) ?_ (f_active, f_outPlace, f_outHeader, f_freeNode, f_freeCount, f_keptDiagram, f_depth, f_got, f_stamp, a_links, a_ruleCount, a_matches, a_actions, a_changes, a_states, a_places, a_headers, a_tables, a_treated, a_nodes, a_following, a_marked, a_bucket, a_now, a_next, a_layer, a_workLevel, a_workOne, a_workTwo, a_workPhase, a_workLow, a_memoStamp, a_memoOne, a_memoTwo, a_memoLevel, a_memoGot) ec rfl (H1 _ _ ?_)
      · show (nI p &&& (-4)) + a_actions (nI (30 * t + 6 * (p / 4) + i)).toNatClampNeg = _
        rw [ea, nb_m4 hp, nI_add]
      · rw [er]; unfold tr_r; rw [if_neg z, if_neg y]
end
section
/-! the reference's treatment; the end of a header, on both sides -/
theorem nb_d4 {p : Nat} (hp : p < 2 ^ 31) : nI p / 4 = nI (p / 4) := pk_div (d := 4) hp (by decide) (by decide)
theorem ym_is {post : Int32 → Prop} {x : Int32} {m h i : Nat} (hi : i < 120) (hx : x = nI i) (hm : m < 4096) (hh : h < 64) : ∀ v : SY, gy_matches v i = nI m → (mt_b m h 6 = true → post 1) → (mt_b m h 6 = false → post 0) → wpY_fits post v x (nI h) := by
  rintro ⟨f_active, f_outPlace, f_outHeader, f_seen, a_links, a_sizes, a_matches, a_actions, a_changes, a_states, a_places, a_headers, a_tables, a_treated⟩ e H1 H0
  subst hx
  have e' : a_matches (nI i).toNatClampNeg = nI m := by rw [nI_clamp (by omega)]; exact e
  refine And.intro (vp_in_nI hi (by decide)) (And.intro (vp_in_nI hi (by decide)) ?_)
  rw [e']
  exact br_c (fun e => H1 ((nb_matchY hm hh).mp e)) (fun e => H0 (by
    cases hb : mt_b m h 6
    · rfl
    · exact absurd ((nb_matchY hm hh).mpr hb) e))
theorem yr_l {v : SY} {T : TB} {t s b h : Nat} {w : Int32} (ht : t < 4) (hs : s < 5) (hh : h < 64) (hT : tb_Ok T) (H : ty_Hd v t T) (hb : ∀ i, i < 6 → (nI (30 * t + 6 * s + i) = w ↔ i = b)) (post : Int32 → Prop) : ∀ n i, n + i = tb_c T s → post ((fr_b (fr_P T s b h) n i).elim (-1) (fun j => nI (30 * t + 6 * s + j))) → wY_ruleFor_14 post (nI t) (nI s) (nI h) w (nI (30 * t + 6 * s)) (gy_active v) (gy_outPlace v) (gy_outHeader v) (gy_seen v) (gy_links v) (gy_sizes v) (gy_matches v) (gy_actions v) (gy_changes v) (gy_states v) (gy_places v) (gy_headers v) (gy_tables v) (gy_treated v) (n + 1) (nI (30 * t + 6 * s + i)) := by
  have e5 : (5 : Int32) * nI t + nI s = nI (5 * t + s) := nb_5m t s
  have hc : nI (30 * t + 6 * s) + gy_sizes v ((5 : Int32) * nI t + nI s).toNatClampNeg = nI (30 * t + 6 * s + tb_c T s) := by rw [e5, nI_clamp (by omega), H.1 s hs, nI_add]
  have h6 := hT.1 s hs
  intro n
  induction n with
  | zero =>
    intro i hi hp
    exact And.intro (pk_in (5 * t + s) 20 (by omega) e5) (pk_le (30 * t + 6 * s + tb_c T s) (30 * t + 6 * s + i) (fun _ => hp) (fun h => absurd h (by omega)) hc rfl)
  | succ n ih =>
    intro i hi hp
    have hm : gy_matches v (30 * t + 6 * s + i) = nI (tb_m T (6 * s + i)) := by rw [Nat.add_assoc]; exact (H.2 (6 * s + i) (by omega)).1
    refine And.intro (pk_in (5 * t + s) 20 (by omega) e5) (pk_le (30 * t + 6 * s + tb_c T s) (30 * t + 6 * s + i) (fun h => absurd h (by omega)) (fun _ => br_c (fun z => ?_) (fun z => ?_)) hc rfl)
    · refine nm_r (nI_1 _) (ih (i + 1) (by omega) ?_)
      have eb := (hb i (by omega)).mp z
      unfold fr_b at hp
      rw [if_neg (by unfold fr_P; rw [eb]; simp)] at hp
      exact hp
    · have eb : i ≠ b := fun y => z ((hb i (by omega)).mpr y)
      have hP : fr_P T s b h i = mt_b (tb_m T (6 * s + i)) h 6 := by
        unfold fr_P
        rw [show (i == b) = false from by rw [beq_eq_false_iff_ne]; exact eb]
        rfl
      refine ym_is (i := 30 * t + 6 * s + i) (by omega) rfl (hT.2 (6 * s + i) (by omega)).1 hh (gy_active v, gy_outPlace v, gy_outHeader v, gy_seen v, gy_links v, gy_sizes v, gy_matches v, gy_actions v, gy_changes v, gy_states v, gy_places v, gy_headers v, gy_tables v, gy_treated v) hm ?_ ?_
      · intro hb
        refine br_f (by decide) ?_
        unfold fr_b at hp
        rw [if_pos (hP.trans hb)] at hp
        exact hp
      · intro hb
        refine br_t rfl (nm_r (nI_1 _) (ih (i + 1) (by omega) ?_))
        unfold fr_b at hp
        rw [if_neg (by rw [hP, hb]; decide)] at hp
        exact hp
theorem yr_f {T : TB} {t s b h : Nat} {w : Int32} (ht : t < 4) (hs : s < 5) (hh : h < 64) (hT : tb_Ok T) (hb : ∀ i, i < 6 → (nI (30 * t + 6 * s + i) = w ↔ i = b)) (post : Int32 → Prop) : ∀ v : SY, ty_Hd v t T → post ((fr_x T s b h).elim (-1) (fun j => nI (30 * t + 6 * s + j))) → wpY_ruleFor post v (nI t) (nI s) (nI h) w := by
  rintro ⟨f_active, f_outPlace, f_outHeader, f_seen, a_links, a_sizes, a_matches, a_actions, a_changes, a_states, a_places, a_headers, a_tables, a_treated⟩ H hp
  have e : (6 : Int32) * ((5 * nI t) + nI s) = nI (30 * t + 6 * s) := by
    rw [nb_5m]
    show nI 6 * nI _ = _
    rw [pk_mul]
    exact congrArg nI (by omega)
  refine nm_r e (Exists.intro (tb_c T s + 1) ?_)
  exact yr_l ht hs hh hT H hb post (tb_c T s) 0 rfl hp
theorem yt_t {post : SY → Prop} {T : TB} {t b p h : Nat} {w : Int32} (ht : t < 4) (hp : p < 20) (hh : h < 64) (hT : tb_Ok T) (hb : ∀ i, i < 6 → (nI (30 * t + 6 * (p / 4) + i) = w ↔ i = b)) : ∀ v : SY, ty_Hd v t T → (tr_o T b p h = none → post (sy_out v (-1) (nI h))) → (∀ q g, tr_o T b p h = some (q, g) → post (sy_out v (nI q) (nI g))) → wpY_treat post v (nI t) (nI p) (nI h) w := by
  rintro ⟨f_active, f_outPlace, f_outHeader, f_seen, a_links, a_sizes, a_matches, a_actions, a_changes, a_states, a_places, a_headers, a_tables, a_treated⟩ H H0 H1
  refine And.intro (by decide) ?_
  rw [nb_d4 (by omega)]
  refine yr_f ht (s := p / 4) (by omega) hh hT hb _ (f_active, f_outPlace, f_outHeader, f_seen, a_links, a_sizes, a_matches, a_actions, a_changes, a_states, a_places, a_headers, a_tables, a_treated) H ?_
  cases e : fr_x T (p / 4) b h with
  | none => exact br_t nb_neg1 (H0 (by unfold tr_o; rw [e]; rfl))
  | some i =>
    have h1 := fr_lt _ _ _ e
    have h2 := hT.1 (p / 4) (by omega)
    have h3 := hT.2 (6 * (p / 4) + i) (by omega)
    have h4 := H.2 (6 * (p / 4) + i) (by omega)
    have ea : a_actions (nI (30 * t + 6 * (p / 4) + i)).toNatClampNeg = nI (tb_a T (6 * (p / 4) + i)) := by
      rw [nI_clamp (by omega), Nat.add_assoc]; exact h4.2.1
    have ec : a_changes (nI (30 * t + 6 * (p / 4) + i)).toNatClampNeg = nI (tb_h T (6 * (p / 4) + i)) := by
      rw [nI_clamp (by omega), Nat.add_assoc]; exact h4.2.2
    have er : tr_o T b p h = tr_r T p h i := by unfold tr_o; rw [e]; rfl
    have hv : vp_in (nI (30 * t + 6 * (p / 4) + i)) 120 := vp_in_nI (by omega) (by decide)
    refine br_f (nI_pos (by omega)) (And.intro hv (pk_eq (tb_a T (6 * (p / 4) + i)) 4 (fun z => ?_) (fun z => And.intro hv (nm_e (And.intro hv (nm_r (e' := nI (ch_v (tb_h T (6 * (p / 4) + i)) h)) ?_ (And.intro hv (pk_eq (tb_a T (6 * (p / 4) + i)) 5 (fun y => ?_) (fun y => And.intro (by decide) (And.intro hv (nm_r (e' := nI (p / 4 * 4 + tb_a T (6 * (p / 4) + i))) ?_ ?_))) ea rfl)))))) ea rfl))
    · exact H0 (by rw [er]; unfold tr_r; rw [if_pos z])
    · show (nI h &&& ((a_changes (nI (30 * t + 6 * (p / 4) + i)).toNatClampNeg >>> ((6 : Int32) &&& 31)) ^^^ (-1))) ||| (a_changes (nI (30 * t + 6 * (p / 4) + i)).toNatClampNeg &&& (a_changes (nI (30 * t + 6 * (p / 4) + i)).toNatClampNeg >>> ((6 : Int32) &&& 31))) = _
      rw [ec]
      exact nb_chY h3.2.2 hh
    · refine H1 _ _ ?_
      rw [er]; unfold tr_r; rw [if_neg z, if_pos y]
    · show nI (p / 4) * 4 + a_actions (nI (30 * t + 6 * (p / 4) + i)).toNatClampNeg = _
      rw [ea]
      show nI (p / 4) * nI 4 + _ = _
      rw [pk_mul, nI_add]
    · refine H1 _ _ ?_
      rw [er]; unfold tr_r; rw [if_neg z, if_neg y]
section
variable {lk : Nat → Option Nat} {T : TB} {k p h q g p' s : Nat}
theorem fw_e_n (e : tr_o T 6 p h = none) : fw_e lk T (k + 1) p h = 1 := by
  unfold fw_e; rw [fw_g, if_neg Bool.false_ne_true, e]; rfl
theorem fw_e_d (e : tr_o T 6 p h = some (q, g)) (l : lk q = none) : fw_e lk T (k + 1) p h = 100 + q := by
  unfold fw_e; rw [fw_g, if_neg Bool.false_ne_true, e, Option.elim_some, l]; rfl
theorem fw_e_c (e : tr_o T 6 p h = some (q, g)) (l : lk q = some p') : fw_e lk T (k + 1) p h = fw_e lk T k p' g := by
  unfold fw_e; rw [fw_g, if_neg Bool.false_ne_true, e, Option.elim_some, l]; rfl
theorem fw_s_1 (e : p / 4 = s) : fw_s lk T s (k + 1) p h = 1 := by
  unfold fw_s; rw [fw_g, if_pos (by rw [beq_iff_eq]; exact e)]
theorem fw_s_n (n : p / 4 ≠ s) (e : tr_o T 6 p h = none) : fw_s lk T s (k + 1) p h = 0 := by
  unfold fw_s; rw [fw_g, if_neg (by rw [beq_iff_eq]; exact n), e]; rfl
theorem fw_s_d (n : p / 4 ≠ s) (e : tr_o T 6 p h = some (q, g)) (l : lk q = none) : fw_s lk T s (k + 1) p h = 0 := by
  unfold fw_s; rw [fw_g, if_neg (by rw [beq_iff_eq]; exact n), e, Option.elim_some, l]; rfl
theorem fw_s_c (n : p / 4 ≠ s) (e : tr_o T 6 p h = some (q, g)) (l : lk q = some p') : fw_s lk T s (k + 1) p h = fw_s lk T s k p' g := by
  unfold fw_s; rw [fw_g, if_neg (by rw [beq_iff_eq]; exact n), e, Option.elim_some, l]; rfl
end
theorem xe_l {T : TB} {t : Nat} (ht : t < 4) (hT : tb_Ok T) (post : Int32 → SX → Prop) : ∀ k, k ≤ 16 → ∀ (u : SX) (p h : Nat), p < 20 → h < 64 → tx_Hd u t T → lk_Ok (gx_links u) → (∀ a b, post (nI (fw_e (lk_f (gx_links u)) T k p h)) (sx_out u a b)) → wX_end_34 post (nI t) (k + 1) (nI p) (nI h) (nI (16 - k)) (gx_active u) (gx_outPlace u) (gx_outHeader u) (gx_freeNode u) (gx_freeCount u) (gx_keptDiagram u) (gx_depth u) (gx_got u) (gx_stamp u) (gx_links u) (gx_ruleCount u) (gx_matches u) (gx_actions u) (gx_changes u) (gx_states u) (gx_places u) (gx_headers u) (gx_tables u) (gx_treated u) (gx_nodes u) (gx_following u) (gx_marked u) (gx_bucket u) (gx_now u) (gx_next u) (gx_layer u) (gx_workLevel u) (gx_workOne u) (gx_workTwo u) (gx_workPhase u) (gx_workLow u) (gx_memoStamp u) (gx_memoOne u) (gx_memoTwo u) (gx_memoLevel u) (gx_memoGot u) := by
  intro k
  induction k with
  | zero =>
    intro _ u p h _ _ _ _ hp
    exact br_t (show (16 : Int32) ≤ nI 16 by decide) (hp (gx_outPlace u) (gx_outHeader u))
  | succ k ih =>
    intro hk u p h h20 h64 H hl hp
    obtain ⟨f_active, f_outPlace, f_outHeader, f_freeNode, f_freeCount, f_keptDiagram, f_depth, f_got, f_stamp, a_links, a_ruleCount, a_matches, a_actions, a_changes, a_states, a_places, a_headers, a_tables, a_treated, a_nodes, a_following, a_marked, a_bucket, a_now, a_next, a_layer, a_workLevel, a_workOne, a_workTwo, a_workPhase, a_workLow, a_memoStamp, a_memoOne, a_memoTwo, a_memoLevel, a_memoGot⟩ := u
    have n16 : ¬ (16 : Int32) ≤ nI (16 - (k + 1)) := nI_ge (b := 16) (by omega) (by decide)
    refine br_f n16 (xt_t ht h20 h64 hT (f_active, f_outPlace, f_outHeader, f_freeNode, f_freeCount, f_keptDiagram, f_depth, f_got, f_stamp, a_links, a_ruleCount, a_matches, a_actions, a_changes, a_states, a_places, a_headers, a_tables, a_treated, a_nodes, a_following, a_marked, a_bucket, a_now, a_next, a_layer, a_workLevel, a_workOne, a_workTwo, a_workPhase, a_workLow, a_memoStamp, a_memoOne, a_memoTwo, a_memoLevel, a_memoGot) H ?_ ?_)
    · intro e
      refine br_t rfl ?_
      have := hp f_outPlace f_outHeader
      rw [fw_e_n e] at this
      exact this
    · intro q g e
      have hq := tr_lt hT h20 h64 e
      have hv : vp_in (nI q) 20 := vp_in_nI hq.1 (by decide)
      refine br_f (by decide) (And.intro hv ?_)
      rcases lk_cs hl hq.1 with ⟨l1, l2⟩ | ⟨p', hp', l1, l2⟩
      · have el : a_links (nI q).toNatClampNeg = -1 := by rw [nI_clamp (by omega)]; exact l2
        have hng : ¬ (0 : Int32) ≤ a_links (nI q).toNatClampNeg := by rw [el]; decide
        refine br_f hng ?_
        have := hp (nI q) (nI g)
        rw [fw_e_d e l1, ← nI_add] at this
        exact this
      · have el : a_links (nI q).toNatClampNeg = nI p' := by rw [nI_clamp (by omega)]; exact l2
        have hng : (0 : Int32) ≤ a_links (nI q).toNatClampNeg := by rw [el]; exact nI_pos' (by omega)
        refine br_t hng (And.intro hv (nm_r el (nm_r (e' := nI (16 - k)) ?_ ?_)))
        · rw [nI_1]; exact congrArg nI (by omega)
        · refine ih (by omega) (sx_out (f_active, f_outPlace, f_outHeader, f_freeNode, f_freeCount, f_keptDiagram, f_depth, f_got, f_stamp, a_links, a_ruleCount, a_matches, a_actions, a_changes, a_states, a_places, a_headers, a_tables, a_treated, a_nodes, a_following, a_marked, a_bucket, a_now, a_next, a_layer, a_workLevel, a_workOne, a_workTwo, a_workPhase, a_workLow, a_memoStamp, a_memoOne, a_memoTwo, a_memoLevel, a_memoGot) (nI q) (nI g)) p' g hp' hq.2 H hl ?_
          intro a b
          have := hp a b
          rw [fw_e_c e l1] at this
          exact this
theorem bt_1s : ∀ j, j < 5 → ∀ s, s < 5 → bt ((1 : Int32) <<< (nI j &&& 31)) s = (j == s) := by decide +kernel
theorem bt_and1 (x : Int32) : x &&& 1 = 1 ↔ bt x 0 = true := by
  rw [pk_and x (m := 1) 1 (by decide)]
  unfold bt
  show nI _ = nI 1 ↔ x.toBitVec.toNat.testBit 0 = true
  rw [nI_eq (by omega) (by decide), Nat.testBit_zero, decide_eq_true_iff]
theorem bt_sh1 (x : Int32) {s : Nat} (hs : s < 32) : (x >>> (nI s &&& 31)) &&& 1 = 1 ↔ bt x s = true := by
  rw [bt_and1, b_sshr s hs x (by decide), if_pos (by omega), Nat.add_zero]
theorem yf_l {T : TB} {t : Nat} (ht : t < 4) (hT : tb_Ok T) (post : Int32 → SY → Prop) : ∀ k, k ≤ 16 → ∀ (v : SY) (p h : Nat), p < 20 → h < 64 → ty_Hd v t T → lk_Ok (gy_links v) → (∀ a b c, (∀ s, s < 5 → bt c s = (bt (gy_seen v) s || (fw_s (lk_f (gy_links v)) T s k p h == 1))) → post (nI (fw_e (lk_f (gy_links v)) T k p h)) (sy_ohs v a b c)) → wY_follow_32 post (nI t) (k + 1) (nI p) (nI h) (nI (16 - k)) (gy_active v) (gy_outPlace v) (gy_outHeader v) (gy_seen v) (gy_links v) (gy_sizes v) (gy_matches v) (gy_actions v) (gy_changes v) (gy_states v) (gy_places v) (gy_headers v) (gy_tables v) (gy_treated v) := by
  intro k
  induction k with
  | zero =>
    intro _ v p h _ _ _ _ hp
    refine br_t (show (16 : Int32) ≤ nI 16 by decide) (hp (gy_outPlace v) (gy_outHeader v) (gy_seen v) ?_)
    intro s _
    show _ = (bt (gy_seen v) s || ((0 : Nat) == 1))
    rw [show ((0 : Nat) == 1) = false from rfl, Bool.or_false]
  | succ k ih =>
    intro hk v p h h20 h64 H hl hp
    obtain ⟨f_active, f_outPlace, f_outHeader, f_seen, a_links, a_sizes, a_matches, a_actions, a_changes, a_states, a_places, a_headers, a_tables, a_treated⟩ := v
    have n16 : ¬ (16 : Int32) ≤ nI (16 - (k + 1)) := nI_ge (b := 16) (by omega) (by decide)
    have e4 : nI p / 4 = nI (p / 4) := nb_d4 (by omega)
    refine br_f n16 (And.intro (by decide) (nm_r (e' := f_seen ||| ((1 : Int32) <<< (nI (p / 4) &&& 31))) (by rw [e4]; rfl) ?_))
    have hs' : ∀ s, s < 5 → bt (f_seen ||| ((1 : Int32) <<< (nI (p / 4) &&& 31))) s = (bt f_seen s || (p / 4 == s)) := by
      intro s hs
      rw [b_or, bt_1s (p / 4) (by omega) s hs]
    generalize f_seen ||| ((1 : Int32) <<< (nI (p / 4) &&& 31)) = sn at hs'
    have hs2 : ∀ s, s < 5 → p / 4 = s → bt sn s = (bt f_seen s || (fw_s (lk_f a_links) T s (k + 1) p h == 1)) := by
      intro s hs e
      rw [hs' s hs, fw_s_1 e, show (p / 4 == s) = true from by rw [beq_iff_eq]; exact e]
      rfl
    have hs3 : ∀ s, s < 5 → p / 4 ≠ s → bt sn s = bt f_seen s := by
      intro s hs e
      rw [hs' s hs, show (p / 4 == s) = false from by rw [beq_eq_false_iff_ne]; exact e, Bool.or_false]
    refine yt_t ht h20 h64 hT (b := 6) ?_ (f_active, f_outPlace, f_outHeader, sn, a_links, a_sizes, a_matches, a_actions, a_changes, a_states, a_places, a_headers, a_tables, a_treated) H ?_ ?_
    · intro i hi
      exact ⟨fun z => absurd z (nb_m1lt _ (by omega)), fun z => absurd z (by omega)⟩
    · intro e
      refine br_f (by decide) ?_
      have := hp (-1) (nI h) sn (by
        intro s hs
        by_cases z : p / 4 = s
        · exact hs2 s hs z
        · show bt sn s = (bt f_seen s || _)
          rw [hs3 s hs z, fw_s_n z e, show ((0 : Nat) == 1) = false from rfl, Bool.or_false])
      rw [fw_e_n e] at this
      exact this
    · intro q g e
      have hq := tr_lt hT h20 h64 e
      have hv : vp_in (nI q) 20 := vp_in_nI hq.1 (by decide)
      refine br_t (nI_pos' (by omega)) (And.intro hv ?_)
      rcases lk_cs hl hq.1 with ⟨l1, l2⟩ | ⟨p', hp', l1, l2⟩
      · have el : a_links (nI q).toNatClampNeg = -1 := by rw [nI_clamp (by omega)]; exact l2
        have hng : ¬ (0 : Int32) ≤ a_links (nI q).toNatClampNeg := by rw [el]; decide
        refine br_f hng ?_
        have := hp (nI q) (nI g) sn (by
          intro s hs
          by_cases z : p / 4 = s
          · exact hs2 s hs z
          · show bt sn s = (bt f_seen s || _)
            rw [hs3 s hs z, fw_s_d z e l1, show ((0 : Nat) == 1) = false from rfl, Bool.or_false])
        rw [fw_e_d e l1, ← nI_add] at this
        exact this
      · have el : a_links (nI q).toNatClampNeg = nI p' := by rw [nI_clamp (by omega)]; exact l2
        have hng : (0 : Int32) ≤ a_links (nI q).toNatClampNeg := by rw [el]; exact nI_pos' (by omega)
        refine br_t hng (And.intro hv (nm_r el (nm_r (e' := nI (16 - k)) ?_ ?_)))
        · rw [nI_1]; exact congrArg nI (by omega)
        · refine ih (by omega) (sy_ohs (f_active, f_outPlace, f_outHeader, f_seen, a_links, a_sizes, a_matches, a_actions, a_changes, a_states, a_places, a_headers, a_tables, a_treated) (nI q) (nI g) sn) p' g hp' hq.2 H hl ?_
          intro a b c hc
          have := hp a b c (by
            intro s hs
            have h1 := hc s hs
            by_cases z : p / 4 = s
            · rw [h1]
              show (bt sn s || _) = (bt f_seen s || _)
              rw [hs' s hs, fw_s_1 z, show (p / 4 == s) = true from by rw [beq_iff_eq]; exact z, Bool.or_true, Bool.true_or]
              cases bt f_seen s <;> rfl
            · rw [h1]
              show (bt sn s || _) = (bt f_seen s || _)
              rw [hs3 s hs z, fw_s_c z e l1]
              rfl)
          rw [fw_e_c e l1] at this
          exact this
theorem nb_r20 {f : Nat} (h : f < 2 ^ 31) : nI f - nI f / 20 * 20 = nI (f % 20) := pk_rem (d := 20) h (by decide) (by decide)
theorem yf_f {T : TB} {t f h : Nat} (ht : t < 4) (hf : f < 40) (hh : h < 64) (hT : tb_Ok T) (post : Int32 → SY → Prop) : ∀ v : SY, (20 ≤ f → t = 0) → (f < 20 → gy_active v = nI t) → ty_Hd v t T → lk_Ok (gy_links v) → (∀ a b c, (∀ s, s < 5 → bt c s = (fw_s (lk_f (gy_links v)) T s 16 (f % 20) h == 1)) → post (nI (fw_e (lk_f (gy_links v)) T 16 (f % 20) h)) (sy_ohs v a b c)) → wpY_follow post v (nI f) (nI h) := by
  rintro ⟨f_active, f_outPlace, f_outHeader, f_seen, a_links, a_sizes, a_matches, a_actions, a_changes, a_states, a_places, a_headers, a_tables, a_treated⟩ h1 h2 H hl hp
  have key : wY_follow_14 post (nI f) (nI h) (nI t) f_active f_outPlace f_outHeader f_seen a_links a_sizes a_matches a_actions a_changes a_states a_places a_headers a_tables a_treated := by
    refine And.intro (by decide) (nm_r (nb_r20 (by omega)) (Exists.intro 17 ?_))
    refine yf_l ht hT post 16 (by omega) (f_active, f_outPlace, f_outHeader, 0, a_links, a_sizes, a_matches, a_actions, a_changes, a_states, a_places, a_headers, a_tables, a_treated) (f % 20) h (by omega) hh H hl ?_
    intro a b c hc
    refine hp a b c ?_
    intro s hs
    rw [hc s hs]
    show (bt 0 s || _) = _
    rw [b_0, Bool.false_or]
    rfl
  refine pk_le 20 f (fun z => ?_) (fun z => ?_)
  · rw [show t = 0 from h1 z] at key
    exact key
  · rw [← show f_active = nI t from h2 z] at key
    exact key
end
section
/-! the store of nodes -/
abbrev SB : Type := Int32 × Int32 × (Nat → Int32) × (Nat → Int32) × (Nat → Int32)
def st_nd (b : SB) (n : Nat) : Nat := (b.2.2.1 n).toNatClampNeg
def st_al (F : List Nat) (n : Nat) : Prop := n < 4096 ∧ n ∉ F
def st_Ch (fl : Nat → Int32) : Int32 → List Nat → Prop
  | x, [] => x = -1
  | x, a :: r => x = nI a ∧ a < 4096 ∧ st_Ch fl (fl a) r
def st_Bk (nd fl bk : Nat → Int32) (F : List Nat) (k : Nat) : Prop := ∃ B, st_Ch fl (bk k) B ∧ ∀ n, n ∈ B ↔ (st_al F n ∧ bk_f (nd n) = k)
def st_Ok (b : SB) (F : List Nat) : Prop := (F.Nodup ∧ ∀ n, n ∈ F → n < 4096) ∧ st_Ch b.2.2.2.1 b.1 F ∧ b.2.1 = nI F.length ∧ (∀ k, k < 1024 → st_Bk b.2.2.1 b.2.2.2.1 b.2.2.2.2 F k) ∧ (∀ n, st_al F n → b.2.2.1 n = nI (st_nd b n)) ∧ dg_Wd (st_nd b) (st_al F) ∧ (∀ n m, st_al F n → st_al F m → st_nd b n = st_nd b m → n = m)
/-- a later store: nodes have been added -/
def st_E (b : SB) (F : List Nat) (b' : SB) (F' : List Nat) : Prop := (∀ n, n ∈ F' → n ∈ F) ∧ ∀ n, st_al F n → b'.2.2.1 n = b.2.2.1 n
theorem st_E_r (b : SB) (F : List Nat) : st_E b F b F := ⟨fun _ h => h, fun _ _ => rfl⟩
theorem st_E_al {b b' : SB} {F F' : List Nat} (E : st_E b F b' F') {n : Nat} (h : st_al F n) : st_al F' n := ⟨h.1, fun z => h.2 (E.1 n z)⟩
theorem st_E_nd {b b' : SB} {F F' : List Nat} (E : st_E b F b' F') {n : Nat} (h : st_al F n) : st_nd b' n = st_nd b n := by unfold st_nd; rw [E.2 n h]
theorem st_E_t {b b' b2 : SB} {F F' F2 : List Nat} (E : st_E b F b' F') (E2 : st_E b' F' b2 F2) : st_E b F b2 F2 := ⟨fun n h => E.1 n (E2.1 n h), fun n h => (E2.2 n (st_E_al E h)).trans (E.2 n h)⟩
theorem st_W {b : SB} {F : List Nat} (S : st_Ok b F) : dg_Wd (st_nd b) (st_al F) := S.2.2.2.2.2.1
theorem st_U {b : SB} {F : List Nat} (S : st_Ok b F) : ∀ n m, st_al F n → st_al F m → st_nd b n = st_nd b m → n = m := S.2.2.2.2.2.2
theorem st_n {b : SB} {F : List Nat} (S : st_Ok b F) {n : Nat} (h : st_al F n) : b.2.2.1 n = nI (st_nd b n) := S.2.2.2.2.1 n h
theorem dg_lt31 {x : Nat} (h : dg_lv x ≤ 6) : x < 2 ^ 31 := by unfold dg_lv at h; omega
theorem st_ndlt {b : SB} {F : List Nat} (S : st_Ok b F) {n : Nat} (h : st_al F n) : st_nd b n < 2 ^ 31 := dg_lt31 (dg_le6 (st_W S) h)
theorem st_ev {b b' : SB} {F F' : List Nat} (S : st_Ok b F) (E : st_E b F b' F') {k : Nat} (hk : k ≤ 6) {n : Nat} (hn : st_al F n) (h : Nat) : dg_ev (st_nd b') k n h = dg_ev (st_nd b) k n h := dg_ev_ext (st_W S) (fun _ z => st_E_nd E z) k hk n hn h
theorem st_Ch_u {fl : Nat → Int32} {a : Nat} {y : Int32} : ∀ (L : List Nat) (x : Int32), a ∉ L → st_Ch fl x L → st_Ch (upd fl a y) x L := by
  intro L
  induction L with
  | nil => intro x _ h; exact h
  | cons c r ih =>
    intro x hn h
    have h1 : c ≠ a := fun e => hn (by rw [e]; exact List.mem_cons_self)
    refine ⟨h.1, h.2.1, ?_⟩
    rw [pk_un h1]
    exact ih _ (fun z => hn (List.mem_cons_of_mem _ z)) h.2.2
theorem dg_Cv_mono {nd nd' : Nat → Nat} {al al' : Nat → Prop} (ha : ∀ n, al n → al' n) (E : ∀ n, al n → nd' n = nd n) {c : Nat} (h : dg_Cv nd al c) : dg_Cv nd' al' c := by
  rcases h with h | h
  · exact Or.inl h
  · refine Or.inr ⟨h.1, ha _ h.2.1, ha _ h.2.2.1, h.2.2.2.1, ?_, ?_⟩
    · rw [E _ h.2.1]; exact h.2.2.2.2.1
    · rw [E _ h.2.2.1]; exact h.2.2.2.2.2
/-- a node is taken from the free ones -/
theorem st_put {fn fc : Int32} {nd fl bk : Nat → Int32} {a c : Nat} {F : List Nat} (S : st_Ok (fn, fc, nd, fl, bk) (a :: F)) (hc : c < 2 ^ 31) (hv : dg_Cv (st_nd (fn, fc, nd, fl, bk)) (st_al (a :: F)) c) (hn : ∀ n, st_al (a :: F) n → bk_f (nd n) = bk_f (nI c) → nd n ≠ nI c) : st_Ok (fl a, fc - 1, upd nd a (nI c), upd fl a (bk (bk_f (nI c))), upd bk (bk_f (nI c)) (nI a)) F ∧ st_E (fn, fc, nd, fl, bk) (a :: F) (fl a, fc - 1, upd nd a (nI c), upd fl a (bk (bk_f (nI c))), upd bk (bk_f (nI c)) (nI a)) F ∧ st_al F a ∧ st_nd (fl a, fc - 1, upd nd a (nI c), upd fl a (bk (bk_f (nI c))), upd bk (bk_f (nI c)) (nI a)) a = c := by
  obtain ⟨⟨s1, s2⟩, s3, s4, s5, s6, s7, s8⟩ := S
  have ha : a < 4096 := s2 a List.mem_cons_self
  have haF : a ∉ F := (List.nodup_cons.mp s1).1
  have hal : ∀ n, n ≠ a → (st_al F n ↔ st_al (a :: F) n) := by
    intro n hne
    refine ⟨fun h => ⟨h.1, fun z => ?_⟩, fun h => ⟨h.1, fun z => h.2 (List.mem_cons_of_mem _ z)⟩⟩
    rcases List.mem_cons.mp z with e | e
    · exact hne e
    · exact h.2 e
  have hna : ∀ n, st_al (a :: F) n → n ≠ a := fun n h e => h.2 (by rw [e]; exact List.mem_cons_self)
  have hE : st_E (fn, fc, nd, fl, bk) (a :: F) (fl a, fc - 1, upd nd a (nI c), upd fl a (bk (bk_f (nI c))), upd bk (bk_f (nI c)) (nI a)) F :=
    ⟨fun n h => List.mem_cons_of_mem _ h, fun n h => pk_un (hna n h)⟩
  have hla : st_al F a := ⟨ha, haF⟩
  have hnd : st_nd (fl a, fc - 1, upd nd a (nI c), upd fl a (bk (bk_f (nI c))), upd bk (bk_f (nI c)) (nI a)) a = c := by
    show (upd nd a (nI c) a).toNatClampNeg = c
    rw [pk_us, nI_clamp hc]
  have hcs : ∀ n, st_al F n → n = a ∨ st_al (a :: F) n := by
    intro n h
    by_cases e : n = a
    · exact Or.inl e
    · exact Or.inr ((hal n e).mp h)
  refine ⟨⟨⟨(List.nodup_cons.mp s1).2, fun n h => s2 n (List.mem_cons_of_mem _ h)⟩, ?_, ?_, ?_, ?_, ?_, ?_⟩, hE, hla, hnd⟩
  · exact st_Ch_u F _ haF s3.2.2
  · show fc - 1 = nI F.length
    have : fc = nI (F.length + 1) := s4
    rw [this, nI_pred]
  · intro k hk
    obtain ⟨B, b1, b2⟩ := s5 k hk
    have haB : a ∉ B := fun z => hna a ((b2 a).mp z).1 rfl
    by_cases ek : k = bk_f (nI c)
    · refine ⟨a :: B, ⟨?_, ha, ?_⟩, ?_⟩
      · show upd bk (bk_f (nI c)) (nI a) k = nI a
        rw [ek, pk_us]
      · show st_Ch (upd fl a (bk (bk_f (nI c)))) (upd fl a (bk (bk_f (nI c))) a) B
        rw [pk_us, ← ek]
        exact st_Ch_u B _ haB b1
      · intro n
        show n ∈ a :: B ↔ st_al F n ∧ bk_f (upd nd a (nI c) n) = k
        rw [List.mem_cons]
        by_cases e : n = a
        · rw [e, pk_us]
          exact ⟨fun _ => ⟨hla, ek.symm⟩, fun _ => Or.inl rfl⟩
        · rw [pk_un e, hal n e]
          exact ⟨fun z => (b2 n).mp (z.resolve_left e), fun z => Or.inr ((b2 n).mpr z)⟩
    · refine ⟨B, ?_, ?_⟩
      · show st_Ch (upd fl a (bk (bk_f (nI c)))) (upd bk (bk_f (nI c)) (nI a) k) B
        rw [pk_un ek]
        exact st_Ch_u B _ haB b1
      · intro n
        show n ∈ B ↔ st_al F n ∧ bk_f (upd nd a (nI c) n) = k
        by_cases e : n = a
        · rw [e, pk_us]
          exact ⟨fun z => absurd z haB, fun z => absurd z.2.symm ek⟩
        · rw [pk_un e, hal n e]
          exact b2 n
  · intro n hn'
    rcases hcs n hn' with e | e
    · rw [e, hnd]
      exact pk_us
    · rw [st_E_nd hE e]
      show upd nd a (nI c) n = _
      rw [pk_un (hna n e)]
      exact s6 n e
  · intro n hn'
    rcases hcs n hn' with e | e
    · refine ⟨hn'.1, ?_⟩
      rw [e, hnd]
      exact dg_Cv_mono (fun _ z => st_E_al hE z) (fun _ z => st_E_nd hE z) hv
    · refine ⟨hn'.1, ?_⟩
      rw [st_E_nd hE e]
      exact dg_Cv_mono (fun _ z => st_E_al hE z) (fun _ z => st_E_nd hE z) (s7 n e).2
  · have hno : ∀ n, st_al (a :: F) n → st_nd (fn, fc, nd, fl, bk) n ≠ c := by
      intro n h e
      have e1 : nd n = nI c := (s6 n h).trans (by rw [e])
      exact hn n h (by rw [e1]) e1
    intro n m h1 h2 e
    rcases hcs n h1 with e1 | e1
    · rcases hcs m h2 with e2 | e2
      · rw [e1, e2]
      · rw [e1, hnd, st_E_nd hE e2] at e
        exact absurd e.symm (hno m e2)
    · rcases hcs m h2 with e2 | e2
      · rw [e2, hnd, st_E_nd hE e1] at e
        exact absurd e (hno n e1)
      · rw [st_E_nd hE e1, st_E_nd hE e2] at e
        exact s8 n m e1 e2 e
/-- all but the store is as it was -/
def xs_K (u u' : SX) : Prop := bx_C u' = bx_C u ∧ bx_D u' = bx_D u ∧ bx_M u' = bx_M u ∧ bx_W u' = bx_W u ∧ gx_got u' = gx_got u ∧ gx_marked u' = gx_marked u
theorem xs_K_r (u : SX) : xs_K u u := ⟨rfl, rfl, rfl, rfl, rfl, rfl⟩
theorem xs_K_t {u u' u2 : SX} (h : xs_K u u') (h2 : xs_K u' u2) : xs_K u u2 := ⟨h2.1.trans h.1, h2.2.1.trans h.2.1, h2.2.2.1.trans h.2.2.1, h2.2.2.2.1.trans h.2.2.2.1, h2.2.2.2.2.1.trans h.2.2.2.2.1, h2.2.2.2.2.2.trans h.2.2.2.2.2⟩
theorem xs_K_s (u : SX) (fn fc : Int32) (nd fl bk : Nat → Int32) : xs_K u (sx_sto u fn fc nd fl bk) := ⟨rfl, rfl, rfl, rfl, rfl, rfl⟩
theorem xn_l {post : Int32 → SX → Prop} {x1 x2 : Int32} (u : SX) (A : Prop) (hA : A → ((0 ≤ gx_freeNode u → (vp_in (gx_freeNode u) 4096 ∧ (∀ f_freeNode_7 : Int32, f_freeNode_7 = gx_following u (gx_freeNode u).toNatClampNeg → (∀ f_freeCount_8 : Int32, f_freeCount_8 = gx_freeCount u - 1 → (vp_in (gx_freeNode u) 4096 ∧ ∀ a_nodes_10 : Nat → Int32, a_nodes_10 = upd (gx_nodes u) (gx_freeNode u).toNatClampNeg x1 → (vp_in x2 1024 ∧ (vp_in (gx_freeNode u) 4096 ∧ ∀ a_following_13 : Nat → Int32, a_following_13 = upd (gx_following u) (gx_freeNode u).toNatClampNeg (gx_bucket u x2.toNatClampNeg) → (vp_in x2 1024 ∧ ∀ a_bucket_15 : Nat → Int32, a_bucket_15 = upd (gx_bucket u) x2.toNatClampNeg (gx_freeNode u) → (post (gx_freeNode u) (sx_sto u f_freeNode_7 f_freeCount_8 a_nodes_10 a_following_13 a_bucket_15)))))))))) ∧ (¬ 0 ≤ gx_freeNode u → (post 0 u)))) : ∀ (B : List Nat) (x3 : Int32), st_Ch (gx_following u) x3 B → (∀ n, n ∈ B → gx_nodes u n = x1 → post (nI n) u) → ((∀ n, n ∈ B → gx_nodes u n ≠ x1) → A) → wX_nodeWith_12 post x1 x2 (gx_active u) (gx_outPlace u) (gx_outHeader u) (gx_freeNode u) (gx_freeCount u) (gx_keptDiagram u) (gx_depth u) (gx_got u) (gx_stamp u) (gx_links u) (gx_ruleCount u) (gx_matches u) (gx_actions u) (gx_changes u) (gx_states u) (gx_places u) (gx_headers u) (gx_tables u) (gx_treated u) (gx_nodes u) (gx_following u) (gx_marked u) (gx_bucket u) (gx_now u) (gx_next u) (gx_layer u) (gx_workLevel u) (gx_workOne u) (gx_workTwo u) (gx_workPhase u) (gx_workLow u) (gx_memoStamp u) (gx_memoOne u) (gx_memoTwo u) (gx_memoLevel u) (gx_memoGot u) (B.length + 1) x3 := by
  intro B
  induction B with
  | nil =>
    intro x3 hch _ hn
    have e : x3 = -1 := hch
    subst e
    exact br_t (by decide) (hA (hn (fun n h => absurd h (List.not_mem_nil))))
  | cons c r ih =>
    intro x3 hch hf hn
    obtain ⟨e, hc, hr⟩ := hch
    subst e
    have hcl : (nI c).toNatClampNeg = c := nI_clamp (by omega)
    have hv : vp_in (nI c) 4096 := vp_in_nI hc (by decide)
    refine br_f (nI_pos (by omega)) (And.intro hv (br_c (fun z => ?_) (fun z => And.intro hv (nm_e ?_))))
    · rw [hcl] at z
      exact hf c List.mem_cons_self z
    · rw [hcl] at z ⊢
      refine ih _ hr (fun n h => hf n (List.mem_cons_of_mem _ h)) (fun H => hn (fun n h => ?_))
      rcases List.mem_cons.mp h with e | e
      · rw [e]; exact z
      · exact H n e
theorem xb_of {post : Int32 → Prop} {x : Int32} (h : post (nI (bk_f x))) : wpX_bucketOf post x := by
  unfold wpX_bucketOf
  rw [bk_eq]
  exact h
theorem xb_nw {post : Int32 → SX → Prop} {x : Int32} {f_active f_outPlace f_outHeader f_freeNode f_freeCount f_keptDiagram f_depth f_got f_stamp a_links a_ruleCount a_matches a_actions a_changes a_states a_places a_headers a_tables a_treated a_nodes a_following a_marked a_bucket a_now a_next a_layer a_workLevel a_workOne a_workTwo a_workPhase a_workLow a_memoStamp a_memoOne a_memoTwo a_memoLevel a_memoGot : _} (h : vp_in (nI (bk_f x)) 1024 ∧ (∀ x3_3 : Int32, x3_3 = a_bucket (nI (bk_f x)).toNatClampNeg → ∃ n12 : Nat, wX_nodeWith_12 post x (nI (bk_f x)) f_active f_outPlace f_outHeader f_freeNode f_freeCount f_keptDiagram f_depth f_got f_stamp a_links a_ruleCount a_matches a_actions a_changes a_states a_places a_headers a_tables a_treated a_nodes a_following a_marked a_bucket a_now a_next a_layer a_workLevel a_workOne a_workTwo a_workPhase a_workLow a_memoStamp a_memoOne a_memoTwo a_memoLevel a_memoGot n12 x3_3)) : wpX_nodeWith post (f_active, f_outPlace, f_outHeader, f_freeNode, f_freeCount, f_keptDiagram, f_depth, f_got, f_stamp, a_links, a_ruleCount, a_matches, a_actions, a_changes, a_states, a_places, a_headers, a_tables, a_treated, a_nodes, a_following, a_marked, a_bucket, a_now, a_next, a_layer, a_workLevel, a_workOne, a_workTwo, a_workPhase, a_workLow, a_memoStamp, a_memoOne, a_memoTwo, a_memoLevel, a_memoGot) x := by
  unfold wpX_nodeWith
  exact xb_of h
/-- the node with a content: what it gives -/
theorem xn_w {c : Nat} (hc : c < 2 ^ 31) {F : List Nat} (hF : 0 < F.length) : ∀ u : SX, st_Ok (bx_S u) F → dg_Cv (st_nd (bx_S u)) (st_al F) c → ∃ (r : Nat) (u' : SX) (F' : List Nat), (∀ post : Int32 → SX → Prop, post (nI r) u' → wpX_nodeWith post u (nI c)) ∧ xs_K u u' ∧ st_Ok (bx_S u') F' ∧ st_E (bx_S u) F (bx_S u') F' ∧ F.length ≤ F'.length + 1 ∧ st_al F' r ∧ st_nd (bx_S u') r = c := by
  rintro ⟨f_active, f_outPlace, f_outHeader, f_freeNode, f_freeCount, f_keptDiagram, f_depth, f_got, f_stamp, a_links, a_ruleCount, a_matches, a_actions, a_changes, a_states, a_places, a_headers, a_tables, a_treated, a_nodes, a_following, a_marked, a_bucket, a_now, a_next, a_layer, a_workLevel, a_workOne, a_workTwo, a_workPhase, a_workLow, a_memoStamp, a_memoOne, a_memoTwo, a_memoLevel, a_memoGot⟩ S hv
  obtain ⟨B, b1, b2⟩ := S.2.2.2.1 (bk_f (nI c)) (bk_lt _)
  change st_Ch a_following (a_bucket (bk_f (nI c))) B at b1
  have hk : vp_in (nI (bk_f (nI c))) 1024 := vp_in_nI (bk_lt _) (by decide)
  have hkc : (nI (bk_f (nI c))).toNatClampNeg = bk_f (nI c) := nI_clamp (by have := bk_lt (nI c); omega)
  by_cases hex : ∃ n, n ∈ B ∧ a_nodes n = nI c
  · obtain ⟨n, hnB, hne⟩ := hex
    have hal := ((b2 n).mp hnB).1
    have hnd : st_nd (bx_S (f_active, f_outPlace, f_outHeader, f_freeNode, f_freeCount, f_keptDiagram, f_depth, f_got, f_stamp, a_links, a_ruleCount, a_matches, a_actions, a_changes, a_states, a_places, a_headers, a_tables, a_treated, a_nodes, a_following, a_marked, a_bucket, a_now, a_next, a_layer, a_workLevel, a_workOne, a_workTwo, a_workPhase, a_workLow, a_memoStamp, a_memoOne, a_memoTwo, a_memoLevel, a_memoGot)) n = c := by
      show (a_nodes n).toNatClampNeg = c
      rw [hne, nI_clamp hc]
    refine ⟨n, (f_active, f_outPlace, f_outHeader, f_freeNode, f_freeCount, f_keptDiagram, f_depth, f_got, f_stamp, a_links, a_ruleCount, a_matches, a_actions, a_changes, a_states, a_places, a_headers, a_tables, a_treated, a_nodes, a_following, a_marked, a_bucket, a_now, a_next, a_layer, a_workLevel, a_workOne, a_workTwo, a_workPhase, a_workLow, a_memoStamp, a_memoOne, a_memoTwo, a_memoLevel, a_memoGot), F, ?_, xs_K_r _, S, st_E_r _ _, by omega, hal, hnd⟩
    intro post hp
    refine xb_nw ?_
    refine And.intro hk (nm_e (Exists.intro (B.length + 1) ?_))
    rw [hkc]
    refine xn_l (f_active, f_outPlace, f_outHeader, f_freeNode, f_freeCount, f_keptDiagram, f_depth, f_got, f_stamp, a_links, a_ruleCount, a_matches, a_actions, a_changes, a_states, a_places, a_headers, a_tables, a_treated, a_nodes, a_following, a_marked, a_bucket, a_now, a_next, a_layer, a_workLevel, a_workOne, a_workTwo, a_workPhase, a_workLow, a_memoStamp, a_memoOne, a_memoTwo, a_memoLevel, a_memoGot) False (fun h => absurd h (fun z => z)) B _ b1 ?_ ?_
    · intro m hm hme
      have h1 := ((b2 m).mp hm).1
      have : m = n := st_U S m n h1 hal (by
        show (a_nodes m).toNatClampNeg = (a_nodes n).toNatClampNeg
        rw [show a_nodes m = nI c from hme, hne])
      rw [this]; exact hp
    · intro H
      exact H n hnB hne
  · cases F with
    | nil => exact absurd hF (by decide)
    | cons a F' =>
      have hn : ∀ n, st_al (a :: F') n → bk_f (a_nodes n) = bk_f (nI c) → a_nodes n ≠ nI c := by
        intro n h1 h2 h3
        exact hex ⟨n, (b2 n).mpr ⟨h1, h2⟩, h3⟩
      obtain ⟨p1, p2, p3, p4⟩ := st_put S hc hv hn
      have e1 : f_freeNode = nI a := S.2.1.1
      have ha : a < 4096 := S.2.1.2.1
      have hcl : (nI a).toNatClampNeg = a := nI_clamp (by omega)
      have hva : vp_in (nI a) 4096 := vp_in_nI ha (by decide)
      refine ⟨a, sx_sto (f_active, f_outPlace, f_outHeader, f_freeNode, f_freeCount, f_keptDiagram, f_depth, f_got, f_stamp, a_links, a_ruleCount, a_matches, a_actions, a_changes, a_states, a_places, a_headers, a_tables, a_treated, a_nodes, a_following, a_marked, a_bucket, a_now, a_next, a_layer, a_workLevel, a_workOne, a_workTwo, a_workPhase, a_workLow, a_memoStamp, a_memoOne, a_memoTwo, a_memoLevel, a_memoGot) (a_following a) (f_freeCount - 1) (upd a_nodes a (nI c)) (upd a_following a (a_bucket (bk_f (nI c)))) (upd a_bucket (bk_f (nI c)) (nI a)), F', ?_, xs_K_s _ _ _ _ _ _, p1, p2, Nat.le_refl _, p3, p4⟩
      intro post hp
      refine xb_nw ?_
      refine And.intro hk (nm_e (Exists.intro (B.length + 1) ?_))
      rw [hkc]
      refine xn_l (f_active, f_outPlace, f_outHeader, f_freeNode, f_freeCount, f_keptDiagram, f_depth, f_got, f_stamp, a_links, a_ruleCount, a_matches, a_actions, a_changes, a_states, a_places, a_headers, a_tables, a_treated, a_nodes, a_following, a_marked, a_bucket, a_now, a_next, a_layer, a_workLevel, a_workOne, a_workTwo, a_workPhase, a_workLow, a_memoStamp, a_memoOne, a_memoTwo, a_memoLevel, a_memoGot) True (fun _ => ?_) B _ b1 ?_ (fun _ => trivial)
      · rw [show gx_freeNode (f_active, f_outPlace, f_outHeader, f_freeNode, f_freeCount, f_keptDiagram, f_depth, f_got, f_stamp, a_links, a_ruleCount, a_matches, a_actions, a_changes, a_states, a_places, a_headers, a_tables, a_treated, a_nodes, a_following, a_marked, a_bucket, a_now, a_next, a_layer, a_workLevel, a_workOne, a_workTwo, a_workPhase, a_workLow, a_memoStamp, a_memoOne, a_memoTwo, a_memoLevel, a_memoGot) = nI a from e1, hkc, hcl]
        refine br_t (nI_pos' (by omega)) (And.intro hva (nm_e (nm_e (And.intro hva (nm_e (And.intro hk (And.intro hva (nm_e (And.intro hk (nm_e ?_))))))))))
        exact hp
      · intro m hm hme
        exact absurd ⟨m, hm, hme⟩ hex
end
section
/-! level, low, high, half, leaf, node -/
theorem xl_lv {post : Int32 → Prop} {n : Nat} {F : List Nat} (hn : st_al F n) : ∀ u : SX, st_Ok (bx_S u) F → post (nI (dg_lv (st_nd (bx_S u) n))) → wpX_levelOf post u (nI n) := by
  rintro ⟨f_active, f_outPlace, f_outHeader, f_freeNode, f_freeCount, f_keptDiagram, f_depth, f_got, f_stamp, a_links, a_ruleCount, a_matches, a_actions, a_changes, a_states, a_places, a_headers, a_tables, a_treated, a_nodes, a_following, a_marked, a_bucket, a_now, a_next, a_layer, a_workLevel, a_workOne, a_workTwo, a_workPhase, a_workLow, a_memoStamp, a_memoOne, a_memoTwo, a_memoLevel, a_memoGot⟩ S hp
  refine And.intro (vp_in_nI hn.1 (by decide)) ?_
  rw [nI_clamp (by have := hn.1; omega), show a_nodes n = nI (st_nd (bx_S (f_active, f_outPlace, f_outHeader, f_freeNode, f_freeCount, f_keptDiagram, f_depth, f_got, f_stamp, a_links, a_ruleCount, a_matches, a_actions, a_changes, a_states, a_places, a_headers, a_tables, a_treated, a_nodes, a_following, a_marked, a_bucket, a_now, a_next, a_layer, a_workLevel, a_workOne, a_workTwo, a_workPhase, a_workLow, a_memoStamp, a_memoOne, a_memoTwo, a_memoLevel, a_memoGot)) n) from st_n S hn, nb_lv (st_ndlt S hn)]
  exact hp
theorem xl_lo {post : Int32 → Prop} {n : Nat} {F : List Nat} (hn : st_al F n) : ∀ u : SX, st_Ok (bx_S u) F → post (nI (dg_lo (st_nd (bx_S u) n))) → wpX_lowOf post u (nI n) := by
  rintro ⟨f_active, f_outPlace, f_outHeader, f_freeNode, f_freeCount, f_keptDiagram, f_depth, f_got, f_stamp, a_links, a_ruleCount, a_matches, a_actions, a_changes, a_states, a_places, a_headers, a_tables, a_treated, a_nodes, a_following, a_marked, a_bucket, a_now, a_next, a_layer, a_workLevel, a_workOne, a_workTwo, a_workPhase, a_workLow, a_memoStamp, a_memoOne, a_memoTwo, a_memoLevel, a_memoGot⟩ S hp
  refine And.intro (vp_in_nI hn.1 (by decide)) ?_
  rw [nI_clamp (by have := hn.1; omega), show a_nodes n = nI (st_nd (bx_S (f_active, f_outPlace, f_outHeader, f_freeNode, f_freeCount, f_keptDiagram, f_depth, f_got, f_stamp, a_links, a_ruleCount, a_matches, a_actions, a_changes, a_states, a_places, a_headers, a_tables, a_treated, a_nodes, a_following, a_marked, a_bucket, a_now, a_next, a_layer, a_workLevel, a_workOne, a_workTwo, a_workPhase, a_workLow, a_memoStamp, a_memoOne, a_memoTwo, a_memoLevel, a_memoGot)) n) from st_n S hn, nb_lo (st_ndlt S hn)]
  exact hp
theorem xl_hi {post : Int32 → Prop} {n : Nat} {F : List Nat} (hn : st_al F n) : ∀ u : SX, st_Ok (bx_S u) F → post (nI (dg_hi (st_nd (bx_S u) n))) → wpX_highOf post u (nI n) := by
  rintro ⟨f_active, f_outPlace, f_outHeader, f_freeNode, f_freeCount, f_keptDiagram, f_depth, f_got, f_stamp, a_links, a_ruleCount, a_matches, a_actions, a_changes, a_states, a_places, a_headers, a_tables, a_treated, a_nodes, a_following, a_marked, a_bucket, a_now, a_next, a_layer, a_workLevel, a_workOne, a_workTwo, a_workPhase, a_workLow, a_memoStamp, a_memoOne, a_memoTwo, a_memoLevel, a_memoGot⟩ S hp
  refine And.intro (vp_in_nI hn.1 (by decide)) ?_
  rw [nI_clamp (by have := hn.1; omega), show a_nodes n = nI (st_nd (bx_S (f_active, f_outPlace, f_outHeader, f_freeNode, f_freeCount, f_keptDiagram, f_depth, f_got, f_stamp, a_links, a_ruleCount, a_matches, a_actions, a_changes, a_states, a_places, a_headers, a_tables, a_treated, a_nodes, a_following, a_marked, a_bucket, a_now, a_next, a_layer, a_workLevel, a_workOne, a_workTwo, a_workPhase, a_workLow, a_memoStamp, a_memoOne, a_memoTwo, a_memoLevel, a_memoGot)) n) from st_n S hn, nb_hi (st_ndlt S hn)]
  exact hp
theorem xl_hf {post : Int32 → Prop} {n L : Nat} {b : Bool} {F : List Nat} (hn : st_al F n) (hL : L < 7) {y : Int32} (hy : y = nI b.toNat) : ∀ u : SX, st_Ok (bx_S u) F → post (nI (dg_hf (st_nd (bx_S u)) n L b)) → wpX_half post u (nI n) (nI L) y := by
  rintro ⟨f_active, f_outPlace, f_outHeader, f_freeNode, f_freeCount, f_keptDiagram, f_depth, f_got, f_stamp, a_links, a_ruleCount, a_matches, a_actions, a_changes, a_states, a_places, a_headers, a_tables, a_treated, a_nodes, a_following, a_marked, a_bucket, a_now, a_next, a_layer, a_workLevel, a_workOne, a_workTwo, a_workPhase, a_workLow, a_memoStamp, a_memoOne, a_memoTwo, a_memoLevel, a_memoGot⟩ S hp
  subst hy
  have h6 := dg_le6 (st_W S) hn
  unfold wpX_half
  refine xl_lv hn (f_active, f_outPlace, f_outHeader, f_freeNode, f_freeCount, f_keptDiagram, f_depth, f_got, f_stamp, a_links, a_ruleCount, a_matches, a_actions, a_changes, a_states, a_places, a_headers, a_tables, a_treated, a_nodes, a_following, a_marked, a_bucket, a_now, a_next, a_layer, a_workLevel, a_workOne, a_workTwo, a_workPhase, a_workLow, a_memoStamp, a_memoOne, a_memoTwo, a_memoLevel, a_memoGot) S ?_
  refine pk_eq (dg_lv (st_nd (bx_S (f_active, f_outPlace, f_outHeader, f_freeNode, f_freeCount, f_keptDiagram, f_depth, f_got, f_stamp, a_links, a_ruleCount, a_matches, a_actions, a_changes, a_states, a_places, a_headers, a_tables, a_treated, a_nodes, a_following, a_marked, a_bucket, a_now, a_next, a_layer, a_workLevel, a_workOne, a_workTwo, a_workPhase, a_workLow, a_memoStamp, a_memoOne, a_memoTwo, a_memoLevel, a_memoGot)) n)) L (fun z => ?_) (fun z => ?_)
  · unfold dg_hf at hp
    rw [if_pos z] at hp
    cases b
    · rw [if_neg (by decide)] at hp
      exact br_t rfl (xl_lo hn (f_active, f_outPlace, f_outHeader, f_freeNode, f_freeCount, f_keptDiagram, f_depth, f_got, f_stamp, a_links, a_ruleCount, a_matches, a_actions, a_changes, a_states, a_places, a_headers, a_tables, a_treated, a_nodes, a_following, a_marked, a_bucket, a_now, a_next, a_layer, a_workLevel, a_workOne, a_workTwo, a_workPhase, a_workLow, a_memoStamp, a_memoOne, a_memoTwo, a_memoLevel, a_memoGot) S hp)
    · rw [if_pos rfl] at hp
      exact br_f (by decide) (xl_hi hn (f_active, f_outPlace, f_outHeader, f_freeNode, f_freeCount, f_keptDiagram, f_depth, f_got, f_stamp, a_links, a_ruleCount, a_matches, a_actions, a_changes, a_states, a_places, a_headers, a_tables, a_treated, a_nodes, a_following, a_marked, a_bucket, a_now, a_next, a_layer, a_workLevel, a_workOne, a_workTwo, a_workPhase, a_workLow, a_memoStamp, a_memoOne, a_memoTwo, a_memoLevel, a_memoGot) S hp)
  · unfold dg_hf at hp
    rw [if_neg z] at hp
    exact hp
theorem xl_leaf {v : Nat} (hv : v < 384) {F : List Nat} (hF : 0 < F.length) : ∀ u : SX, st_Ok (bx_S u) F → ∃ (r : Nat) (u' : SX) (F' : List Nat), (∀ post : Int32 → SX → Prop, post (nI r) u' → wpX_leaf post u (nI v)) ∧ xs_K u u' ∧ st_Ok (bx_S u') F' ∧ st_E (bx_S u) F (bx_S u') F' ∧ F.length ≤ F'.length + 1 ∧ st_al F' r ∧ dg_lv (st_nd (bx_S u') r) = 6 ∧ dg_lo (st_nd (bx_S u') r) = v := by
  intro u S
  have hl : dg_lv (6 * 16777216 + v * 4096 + 0) = 6 := dg_lv_mk (by omega) (by omega)
  have hlo : dg_lo (6 * 16777216 + v * 4096 + 0) = v := dg_lo_mk (by omega) (by omega)
  have hhi : dg_hi (6 * 16777216 + v * 4096 + 0) = 0 := dg_hi_mk (by omega)
  obtain ⟨r, u', F', h1, h2, h3, h4, h5, h6, h7⟩ := xn_w (c := 6 * 16777216 + v * 4096 + 0) (by omega) hF u S (Or.inl ⟨hl, by rw [hlo]; exact hv, hhi⟩)
  refine ⟨r, u', F', ?_, h2, h3, h4, h5, h6, by rw [h7]; exact hl, by rw [h7]; exact hlo⟩
  intro post hp
  obtain ⟨f_active, f_outPlace, f_outHeader, f_freeNode, f_freeCount, f_keptDiagram, f_depth, f_got, f_stamp, a_links, a_ruleCount, a_matches, a_actions, a_changes, a_states, a_places, a_headers, a_tables, a_treated, a_nodes, a_following, a_marked, a_bucket, a_now, a_next, a_layer, a_workLevel, a_workOne, a_workTwo, a_workPhase, a_workLow, a_memoStamp, a_memoOne, a_memoTwo, a_memoLevel, a_memoGot⟩ := u
  show wpX_nodeWith _ (f_active, f_outPlace, f_outHeader, f_freeNode, f_freeCount, f_keptDiagram, f_depth, f_got, f_stamp, a_links, a_ruleCount, a_matches, a_actions, a_changes, a_states, a_places, a_headers, a_tables, a_treated, a_nodes, a_following, a_marked, a_bucket, a_now, a_next, a_layer, a_workLevel, a_workOne, a_workTwo, a_workPhase, a_workLow, a_memoStamp, a_memoOne, a_memoTwo, a_memoLevel, a_memoGot) ((100663296 : Int32) ||| (nI v <<< ((12 : Int32) &&& 31)))
  rw [nb_leaf (by omega)]
  refine h1 _ ?_
  obtain ⟨f_active2, f_outPlace2, f_outHeader2, f_freeNode2, f_freeCount2, f_keptDiagram2, f_depth2, f_got2, f_stamp2, a_links2, a_ruleCount2, a_matches2, a_actions2, a_changes2, a_states2, a_places2, a_headers2, a_tables2, a_treated2, a_nodes2, a_following2, a_marked2, a_bucket2, a_now2, a_next2, a_layer2, a_workLevel2, a_workOne2, a_workTwo2, a_workPhase2, a_workLow2, a_memoStamp2, a_memoOne2, a_memoTwo2, a_memoLevel2, a_memoGot2⟩ := u'
  exact hp
/-- a node with two branches: what it gives, as a function of the header -/
theorem xl_node {k a b : Nat} (hk : k < 6) {F : List Nat} (hF : 0 < F.length) : ∀ u : SX, st_Ok (bx_S u) F → st_al F a → st_al F b → 6 - k ≤ dg_lv (st_nd (bx_S u) a) → 6 - k ≤ dg_lv (st_nd (bx_S u) b) → ∃ (r : Nat) (u' : SX) (F' : List Nat), (∀ post : Int32 → SX → Prop, post (nI r) u' → wpX_node post u (nI (5 - k)) (nI a) (nI b)) ∧ xs_K u u' ∧ st_Ok (bx_S u') F' ∧ st_E (bx_S u) F (bx_S u') F' ∧ F.length ≤ F'.length + 1 ∧ st_al F' r ∧ 5 - k ≤ dg_lv (st_nd (bx_S u') r) ∧ ∀ h, dg_ev (st_nd (bx_S u')) (k + 1) r h = if h.testBit k = true then dg_ev (st_nd (bx_S u)) k b h else dg_ev (st_nd (bx_S u)) k a h := by
  intro u S ha hb la lb
  have ha4 := ha.1
  have hb4 := hb.1
  by_cases e : a = b
  · subst e
    refine ⟨a, u, F, ?_, xs_K_r u, S, st_E_r _ _, by omega, ha, by omega, ?_⟩
    · intro post hp
      obtain ⟨f_active, f_outPlace, f_outHeader, f_freeNode, f_freeCount, f_keptDiagram, f_depth, f_got, f_stamp, a_links, a_ruleCount, a_matches, a_actions, a_changes, a_states, a_places, a_headers, a_tables, a_treated, a_nodes, a_following, a_marked, a_bucket, a_now, a_next, a_layer, a_workLevel, a_workOne, a_workTwo, a_workPhase, a_workLow, a_memoStamp, a_memoOne, a_memoTwo, a_memoLevel, a_memoGot⟩ := u
      exact br_t rfl hp
    · intro h
      rw [dg_ev_skip1 (by omega)]
      by_cases z : h.testBit k = true
      · rw [if_pos z]
      · rw [if_neg z]
  · have hl : dg_lv ((5 - k) * 16777216 + a * 4096 + b) = 5 - k := dg_lv_mk ha4 hb4
    have hlo : dg_lo ((5 - k) * 16777216 + a * 4096 + b) = a := dg_lo_mk ha4 hb4
    have hhi : dg_hi ((5 - k) * 16777216 + a * 4096 + b) = b := dg_hi_mk hb4
    obtain ⟨r, u', F', h1, h2, h3, h4, h5, h6, h7⟩ := xn_w (c := (5 - k) * 16777216 + a * 4096 + b) (by omega) hF u S (Or.inr (by rw [hl, hlo, hhi]; exact ⟨by omega, ha, hb, e, by omega, by omega⟩))
    refine ⟨r, u', F', ?_, h2, h3, h4, h5, h6, by rw [h7, hl]; exact Nat.le_refl _, ?_⟩
    · intro post hp
      obtain ⟨f_active, f_outPlace, f_outHeader, f_freeNode, f_freeCount, f_keptDiagram, f_depth, f_got, f_stamp, a_links, a_ruleCount, a_matches, a_actions, a_changes, a_states, a_places, a_headers, a_tables, a_treated, a_nodes, a_following, a_marked, a_bucket, a_now, a_next, a_layer, a_workLevel, a_workOne, a_workTwo, a_workPhase, a_workLow, a_memoStamp, a_memoOne, a_memoTwo, a_memoLevel, a_memoGot⟩ := u
      refine br_f (nb_ne (by omega) (by omega) e) ?_
      rw [nb_node (by omega) ha4 hb4]
      refine h1 _ ?_
      obtain ⟨f_active2, f_outPlace2, f_outHeader2, f_freeNode2, f_freeCount2, f_keptDiagram2, f_depth2, f_got2, f_stamp2, a_links2, a_ruleCount2, a_matches2, a_actions2, a_changes2, a_states2, a_places2, a_headers2, a_tables2, a_treated2, a_nodes2, a_following2, a_marked2, a_bucket2, a_now2, a_next2, a_layer2, a_workLevel2, a_workOne2, a_workTwo2, a_workPhase2, a_workLow2, a_memoStamp2, a_memoOne2, a_memoTwo2, a_memoLevel2, a_memoGot2⟩ := u'
      exact hp
    · intro h
      rw [dg_ev_node (by rw [h7, hl]), h7, hlo, hhi, st_ev S h4 (by omega) ha, st_ev S h4 (by omega) hb]
end
section
/-! push, finish, recall; a step of choose -/
def xw_p (u : SX) (d : Nat) (p0 p1 p2 : Int32) : SX := sx_work u (nI (d + 1)) (upd (gx_workLevel u) d p0) (upd (gx_workOne u) d p1) (upd (gx_workTwo u) d p2) (upd (gx_workPhase u) d 0) (gx_workLow u)
def xw_h (u : SX) (d : Nat) (x : Int32) : SX := sx_work u (gx_depth u) (gx_workLevel u) (gx_workOne u) (gx_workTwo u) (upd (gx_workPhase u) d x) (gx_workLow u)
def xw_l (u : SX) (d : Nat) (x : Int32) : SX := sx_work u (gx_depth u) (gx_workLevel u) (gx_workOne u) (gx_workTwo u) (gx_workPhase u) (upd (gx_workLow u) d x)
def xw_i (u : SX) (d : Nat) : Nat := mm_f (gx_workLevel u d) (gx_workOne u d) (gx_workTwo u d)
def xw_f (u : SX) (d : Nat) (r : Int32) : SX := (gx_active u, gx_outPlace u, gx_outHeader u, gx_freeNode u, gx_freeCount u, gx_keptDiagram u, nI d, r, gx_stamp u, gx_links u, gx_ruleCount u, gx_matches u, gx_actions u, gx_changes u, gx_states u, gx_places u, gx_headers u, gx_tables u, gx_treated u, gx_nodes u, gx_following u, gx_marked u, gx_bucket u, gx_now u, gx_next u, gx_layer u, gx_workLevel u, gx_workOne u, gx_workTwo u, gx_workPhase u, gx_workLow u, upd (gx_memoStamp u) (xw_i u d) (gx_stamp u), upd (gx_memoOne u) (xw_i u d) (gx_workOne u d), upd (gx_memoTwo u) (xw_i u d) (gx_workTwo u d), upd (gx_memoLevel u) (xw_i u d) (gx_workLevel u d), upd (gx_memoGot u) (xw_i u d) r)
theorem bx_S_p (u : SX) (d : Nat) (x y z : Int32) : bx_S (xw_p u d x y z) = bx_S u := rfl
theorem bx_S_h (u : SX) (d : Nat) (x : Int32) : bx_S (xw_h u d x) = bx_S u := rfl
theorem bx_S_l (u : SX) (d : Nat) (x : Int32) : bx_S (xw_l u d x) = bx_S u := rfl
theorem bx_S_f (u : SX) (d : Nat) (x : Int32) : bx_S (xw_f u d x) = bx_S u := rfl
theorem nb_t1 : (1 : Int32) = nI true.toNat := by decide
theorem nb_f0 : (0 : Int32) = nI false.toNat := by decide
theorem xp_push {post : SX → Prop} {d : Nat} {p0 p1 p2 : Int32} (hd : d < 16) : ∀ u : SX, gx_depth u = nI d → post (xw_p u d p0 p1 p2) → wpX_push post u p0 p1 p2 := by
  rintro ⟨f_active, f_outPlace, f_outHeader, f_freeNode, f_freeCount, f_keptDiagram, f_depth, f_got, f_stamp, a_links, a_ruleCount, a_matches, a_actions, a_changes, a_states, a_places, a_headers, a_tables, a_treated, a_nodes, a_following, a_marked, a_bucket, a_now, a_next, a_layer, a_workLevel, a_workOne, a_workTwo, a_workPhase, a_workLow, a_memoStamp, a_memoOne, a_memoTwo, a_memoLevel, a_memoGot⟩ e hp
  have e' : f_depth = nI d := e
  subst e'
  have hv : vp_in (nI d) 16 := vp_in_nI hd (by decide)
  have hc : (nI d).toNatClampNeg = d := nI_clamp (by omega)
  refine And.intro hv ?_
  rw [hc]
  exact nm_e (And.intro hv (nm_e (And.intro hv (nm_e (And.intro hv (nm_e (nm_r (nI_1 d) hp)))))))
theorem xp_fin {post : SX → Prop} {d : Nat} {r : Int32} (hd : d < 16) : ∀ u : SX, gx_depth u = nI (d + 1) → post (xw_f u d r) → wpX_finish post u (nI d) r := by
  rintro ⟨f_active, f_outPlace, f_outHeader, f_freeNode, f_freeCount, f_keptDiagram, f_depth, f_got, f_stamp, a_links, a_ruleCount, a_matches, a_actions, a_changes, a_states, a_places, a_headers, a_tables, a_treated, a_nodes, a_following, a_marked, a_bucket, a_now, a_next, a_layer, a_workLevel, a_workOne, a_workTwo, a_workPhase, a_workLow, a_memoStamp, a_memoOne, a_memoTwo, a_memoLevel, a_memoGot⟩ e hp
  have hv : vp_in (nI d) 16 := vp_in_nI hd (by decide)
  have hc : (nI d).toNatClampNeg = d := nI_clamp (by omega)
  refine And.intro hv (And.intro hv (And.intro hv ?_))
  rw [hc]
  show vp_in _ 256 ∧ _
  rw [mm_eq]
  have hm : vp_in (nI (mm_f (a_workLevel d) (a_workOne d) (a_workTwo d))) 256 := vp_in_nI (mm_lt _ _ _) (by decide)
  have hmc : (nI (mm_f (a_workLevel d) (a_workOne d) (a_workTwo d))).toNatClampNeg = mm_f (a_workLevel d) (a_workOne d) (a_workTwo d) := nI_clamp (by have := mm_lt (a_workLevel d) (a_workOne d) (a_workTwo d); omega)
  refine And.intro hm ?_
  rw [hmc]
  refine nm_e (And.intro hv (And.intro hm (nm_e (And.intro hv (And.intro hm (nm_e (And.intro hv (And.intro hm (nm_e (And.intro hm (nm_e (nm_r (e' := nI d) ?_ hp))))))))))))
  rw [show f_depth = nI (d + 1) from e, nI_pred]
def xw_H (u : SX) (l a b : Int32) : Prop := gx_memoStamp u (mm_f l a b) = gx_stamp u ∧ gx_memoOne u (mm_f l a b) = a ∧ gx_memoTwo u (mm_f l a b) = b ∧ gx_memoLevel u (mm_f l a b) = l
theorem xp_rec {post : Int32 → SX → Prop} {l a b : Int32} : ∀ u : SX, (xw_H u l a b → post 1 (sx_dg u (gx_depth u) (gx_memoGot u (mm_f l a b)))) → (¬ xw_H u l a b → post 0 u) → wpX_recall post u l a b := by
  rintro ⟨f_active, f_outPlace, f_outHeader, f_freeNode, f_freeCount, f_keptDiagram, f_depth, f_got, f_stamp, a_links, a_ruleCount, a_matches, a_actions, a_changes, a_states, a_places, a_headers, a_tables, a_treated, a_nodes, a_following, a_marked, a_bucket, a_now, a_next, a_layer, a_workLevel, a_workOne, a_workTwo, a_workPhase, a_workLow, a_memoStamp, a_memoOne, a_memoTwo, a_memoLevel, a_memoGot⟩ h1 h0
  show vp_in _ 256 ∧ _
  rw [mm_eq]
  have hm : vp_in (nI (mm_f l a b)) 256 := vp_in_nI (mm_lt _ _ _) (by decide)
  have hmc : (nI (mm_f l a b)).toNatClampNeg = mm_f l a b := nI_clamp (by have := mm_lt l a b; omega)
  refine And.intro hm ?_
  rw [hmc]
  refine br_c (fun z1 => And.intro hm (br_c (fun z2 => And.intro hm (br_c (fun z3 => And.intro hm (br_c (fun z4 => And.intro hm (nm_e ?_)) (fun z4 => ?_))) (fun z3 => ?_))) (fun z2 => ?_))) (fun z1 => ?_)
  · exact h1 ⟨z1, z2, z3, z4⟩
  · exact h0 (fun h => z4 h.2.2.2)
  · exact h0 (fun h => z3 h.2.2.1)
  · exact h0 (fun h => z2 h.2.1)
  · exact h0 (fun h => z1 h.1)
/-- the frame at d -/
def xw_F (u : SX) (d L a b ph : Nat) : Prop := gx_workLevel u d = nI L ∧ gx_workOne u d = nI a ∧ gx_workTwo u d = nI b ∧ gx_workPhase u d = nI ph
theorem xc_open {post : SX → Prop} {m d k a b ph : Nat} (hm : m < 4096) (hd : d < 16) (hk : k ≤ 6) (ha : a < 4096) (hb : b < 4096) (hph : ph ≤ 2) : ∀ u : SX, gx_depth u = nI (d + 1) → xw_F u d (6 - k) a b ph → (ph = 0 → (a = b ∨ m / 64 % 2 ^ k = 0) → post (sx_dg u (nI d) (nI a))) → ((ph ≠ 0 ∨ (a ≠ b ∧ m / 64 % 2 ^ k ≠ 0)) → wX_chooseStep_91 post (nI m) (nI d) (nI (6 - k)) (nI a) (nI b) (nI ph) (nI (m / 64)) (gx_active u) (gx_outPlace u) (gx_outHeader u) (gx_freeNode u) (gx_freeCount u) (gx_keptDiagram u) (gx_depth u) (gx_got u) (gx_stamp u) (gx_links u) (gx_ruleCount u) (gx_matches u) (gx_actions u) (gx_changes u) (gx_states u) (gx_places u) (gx_headers u) (gx_tables u) (gx_treated u) (gx_nodes u) (gx_following u) (gx_marked u) (gx_bucket u) (gx_now u) (gx_next u) (gx_layer u) (gx_workLevel u) (gx_workOne u) (gx_workTwo u) (gx_workPhase u) (gx_workLow u) (gx_memoStamp u) (gx_memoOne u) (gx_memoTwo u) (gx_memoLevel u) (gx_memoGot u)) → wpX_chooseStep post u (nI m) := by
  rintro ⟨f_active, f_outPlace, f_outHeader, f_freeNode, f_freeCount, f_keptDiagram, f_depth, f_got, f_stamp, a_links, a_ruleCount, a_matches, a_actions, a_changes, a_states, a_places, a_headers, a_tables, a_treated, a_nodes, a_following, a_marked, a_bucket, a_now, a_next, a_layer, a_workLevel, a_workOne, a_workTwo, a_workPhase, a_workLow, a_memoStamp, a_memoOne, a_memoTwo, a_memoLevel, a_memoGot⟩ e1 ⟨e2, e3, e4, e5⟩ HA HB
  have hv : vp_in (nI d) 16 := vp_in_nI hd (by decide)
  have hc : (nI d).toNatClampNeg = d := nI_clamp (by omega)
  have ed : f_depth - 1 = nI d := by rw [show f_depth = nI (d + 1) from e1, nI_pred]
  have h2k : m / 64 % 2 ^ k ≤ m / 64 := Nat.mod_le _ _
  refine nm_r ed (And.intro hv (nm_r (e' := nI (6 - k)) (by rw [hc]; exact e2) (And.intro hv (nm_r (e' := nI a) (by rw [hc]; exact e3) (And.intro hv (nm_r (e' := nI b) (by rw [hc]; exact e4) (And.intro hv (nm_r (e' := nI ph) (by rw [hc]; exact e5) (nm_r (nb_shr6 (by omega)) (nm_r (nb_rest (by omega) hk) ?_))))))))))
  refine pk_eq ph 0 (fun z => pk_eq a b (fun y => nm_r ed (HA z (Or.inl y))) (fun y => pk_eq (m / 64 % 2 ^ k) 0 (fun w => nm_r ed (HA z (Or.inr w))) (fun w => HB (Or.inr ⟨y, w⟩)))) (fun z => HB (Or.inl z))
theorem xc_91 {post : SX → Prop} {m d L a b ph : Nat} (hph : ph ≤ 2) {x7 : Int32} : ∀ u : SX, gx_depth u = nI (d + 1) → (ph = 0 → xw_H u (nI L) (nI a) (nI b) → post (sx_dg u (nI d) (gx_memoGot u (mm_f (nI L) (nI a) (nI b))))) → ((ph ≠ 0 ∨ ¬ xw_H u (nI L) (nI a) (nI b)) → wX_chooseStep_119 post (nI m) (nI d) (nI L) (nI a) (nI b) (nI ph) x7 (gx_active u) (gx_outPlace u) (gx_outHeader u) (gx_freeNode u) (gx_freeCount u) (gx_keptDiagram u) (gx_depth u) (gx_got u) (gx_stamp u) (gx_links u) (gx_ruleCount u) (gx_matches u) (gx_actions u) (gx_changes u) (gx_states u) (gx_places u) (gx_headers u) (gx_tables u) (gx_treated u) (gx_nodes u) (gx_following u) (gx_marked u) (gx_bucket u) (gx_now u) (gx_next u) (gx_layer u) (gx_workLevel u) (gx_workOne u) (gx_workTwo u) (gx_workPhase u) (gx_workLow u) (gx_memoStamp u) (gx_memoOne u) (gx_memoTwo u) (gx_memoLevel u) (gx_memoGot u)) → wX_chooseStep_91 post (nI m) (nI d) (nI L) (nI a) (nI b) (nI ph) x7 (gx_active u) (gx_outPlace u) (gx_outHeader u) (gx_freeNode u) (gx_freeCount u) (gx_keptDiagram u) (gx_depth u) (gx_got u) (gx_stamp u) (gx_links u) (gx_ruleCount u) (gx_matches u) (gx_actions u) (gx_changes u) (gx_states u) (gx_places u) (gx_headers u) (gx_tables u) (gx_treated u) (gx_nodes u) (gx_following u) (gx_marked u) (gx_bucket u) (gx_now u) (gx_next u) (gx_layer u) (gx_workLevel u) (gx_workOne u) (gx_workTwo u) (gx_workPhase u) (gx_workLow u) (gx_memoStamp u) (gx_memoOne u) (gx_memoTwo u) (gx_memoLevel u) (gx_memoGot u) := by
  rintro ⟨f_active, f_outPlace, f_outHeader, f_freeNode, f_freeCount, f_keptDiagram, f_depth, f_got, f_stamp, a_links, a_ruleCount, a_matches, a_actions, a_changes, a_states, a_places, a_headers, a_tables, a_treated, a_nodes, a_following, a_marked, a_bucket, a_now, a_next, a_layer, a_workLevel, a_workOne, a_workTwo, a_workPhase, a_workLow, a_memoStamp, a_memoOne, a_memoTwo, a_memoLevel, a_memoGot⟩ e1 HA HB
  refine pk_eq ph 0 (fun z => xp_rec (f_active, f_outPlace, f_outHeader, f_freeNode, f_freeCount, f_keptDiagram, f_depth, f_got, f_stamp, a_links, a_ruleCount, a_matches, a_actions, a_changes, a_states, a_places, a_headers, a_tables, a_treated, a_nodes, a_following, a_marked, a_bucket, a_now, a_next, a_layer, a_workLevel, a_workOne, a_workTwo, a_workPhase, a_workLow, a_memoStamp, a_memoOne, a_memoTwo, a_memoLevel, a_memoGot) (fun y => br_f (by decide) (nm_r (e' := nI d) ?_ (HA z y))) (fun y => br_t rfl (HB (Or.inr y)))) (fun z => HB (Or.inl z))
  show f_depth - 1 = nI d
  rw [show f_depth = nI (d + 1) from e1, nI_pred]
theorem nb_div64 {m j : Nat} : (m / 64).testBit j = m.testBit (j + 6) := by
  rw [show (64 : Nat) = 2 ^ 6 from rfl, Nat.testBit_div_two_pow]
theorem xc_119 {post : SX → Prop} {m d j a b ph : Nat} (hm : m < 4096) (hd : d < 16) (hj : j < 6) : ∀ u : SX, gx_workPhase u d = nI ph → (m.testBit (j + 6) = true → ∀ Q : SX → Prop, (∀ u', post u' → Q u') → wpX_chooseAlong Q (xw_h u d (nI (ph + 1))) (nI (5 - j)) (nI a) (nI b) (nI ph) (nI (m.testBit j).toNat)) → (m.testBit (j + 6) = false → ∀ Q : SX → Prop, (∀ u', post u' → Q u') → wpX_chooseBoth Q (xw_h u d (nI (ph + 1))) (nI (5 - j)) (nI a) (nI b) (nI ph)) → wX_chooseStep_119 post (nI m) (nI d) (nI (5 - j)) (nI a) (nI b) (nI ph) (nI (m / 64)) (gx_active u) (gx_outPlace u) (gx_outHeader u) (gx_freeNode u) (gx_freeCount u) (gx_keptDiagram u) (gx_depth u) (gx_got u) (gx_stamp u) (gx_links u) (gx_ruleCount u) (gx_matches u) (gx_actions u) (gx_changes u) (gx_states u) (gx_places u) (gx_headers u) (gx_tables u) (gx_treated u) (gx_nodes u) (gx_following u) (gx_marked u) (gx_bucket u) (gx_now u) (gx_next u) (gx_layer u) (gx_workLevel u) (gx_workOne u) (gx_workTwo u) (gx_workPhase u) (gx_workLow u) (gx_memoStamp u) (gx_memoOne u) (gx_memoTwo u) (gx_memoLevel u) (gx_memoGot u) := by
  rintro ⟨f_active, f_outPlace, f_outHeader, f_freeNode, f_freeCount, f_keptDiagram, f_depth, f_got, f_stamp, a_links, a_ruleCount, a_matches, a_actions, a_changes, a_states, a_places, a_headers, a_tables, a_treated, a_nodes, a_following, a_marked, a_bucket, a_now, a_next, a_layer, a_workLevel, a_workOne, a_workTwo, a_workPhase, a_workLow, a_memoStamp, a_memoOne, a_memoTwo, a_memoLevel, a_memoGot⟩ e HA HB
  have hv : vp_in (nI d) 16 := vp_in_nI hd (by decide)
  have hc : (nI d).toNatClampNeg = d := nI_clamp (by omega)
  have e5 : (5 : Int32) - nI (5 - j) = nI j := by rw [nb_5 (by omega)]; exact congrArg nI (by omega)
  refine And.intro hv (And.intro hv (nm_r (e' := upd a_workPhase d (nI (ph + 1))) ?_ (nm_r e5 ?_)))
  · rw [hc]
    show upd a_workPhase d (a_workPhase d + 1) = _
    rw [show a_workPhase d = nI ph from e, nI_1]
  · have hb1 := nb_bit1 (x := m / 64) (k := j) (by omega) (by omega)
    rw [nb_div64] at hb1
    have hb2 := nb_bitv (x := m) (k := j) (by omega) (by omega)
    refine br_c (fun z => ?_) (fun z => ?_)
    · rw [hb2]
      refine HA (hb1.mp z) _ ?_
      rintro ⟨f_active2, f_outPlace2, f_outHeader2, f_freeNode2, f_freeCount2, f_keptDiagram2, f_depth2, f_got2, f_stamp2, a_links2, a_ruleCount2, a_matches2, a_actions2, a_changes2, a_states2, a_places2, a_headers2, a_tables2, a_treated2, a_nodes2, a_following2, a_marked2, a_bucket2, a_now2, a_next2, a_layer2, a_workLevel2, a_workOne2, a_workTwo2, a_workPhase2, a_workLow2, a_memoStamp2, a_memoOne2, a_memoTwo2, a_memoLevel2, a_memoGot2⟩ hp
      exact hp
    · refine HB ?_ _ ?_
      · cases hb : m.testBit (j + 6)
        · rfl
        · exact absurd (hb1.mpr hb) z
      · rintro ⟨f_active2, f_outPlace2, f_outHeader2, f_freeNode2, f_freeCount2, f_keptDiagram2, f_depth2, f_got2, f_stamp2, a_links2, a_ruleCount2, a_matches2, a_actions2, a_changes2, a_states2, a_places2, a_headers2, a_tables2, a_treated2, a_nodes2, a_following2, a_marked2, a_bucket2, a_now2, a_next2, a_layer2, a_workLevel2, a_workOne2, a_workTwo2, a_workPhase2, a_workLow2, a_memoStamp2, a_memoOne2, a_memoTwo2, a_memoLevel2, a_memoGot2⟩ hp
        exact hp
theorem nb_s1 (b : Bool) : (1 : Int32) - nI b.toNat = nI (!b).toNat := by cases b <;> decide
theorem xc_al0 {post : SX → Prop} {d j a b : Nat} {β : Bool} {F : List Nat} (hd : d + 1 < 16) (hj : j < 6) (ha : st_al F a) (hb : st_al F b) : ∀ u : SX, st_Ok (bx_S u) F → gx_depth u = nI (d + 1) → post (xw_p u (d + 1) (nI (6 - j)) (nI (dg_hf (st_nd (bx_S u)) a (5 - j) β)) (nI (dg_hf (st_nd (bx_S u)) b (5 - j) β))) → wpX_chooseAlong post u (nI (5 - j)) (nI a) (nI b) 0 (nI β.toNat) := by
  rintro ⟨f_active, f_outPlace, f_outHeader, f_freeNode, f_freeCount, f_keptDiagram, f_depth, f_got, f_stamp, a_links, a_ruleCount, a_matches, a_actions, a_changes, a_states, a_places, a_headers, a_tables, a_treated, a_nodes, a_following, a_marked, a_bucket, a_now, a_next, a_layer, a_workLevel, a_workOne, a_workTwo, a_workPhase, a_workLow, a_memoStamp, a_memoOne, a_memoTwo, a_memoLevel, a_memoGot⟩ S e hp
  refine nm_e (br_t rfl (xl_hf ha (by omega) rfl (f_active, f_outPlace, f_outHeader, f_freeNode, f_freeCount, f_keptDiagram, f_depth, f_got, f_stamp, a_links, a_ruleCount, a_matches, a_actions, a_changes, a_states, a_places, a_headers, a_tables, a_treated, a_nodes, a_following, a_marked, a_bucket, a_now, a_next, a_layer, a_workLevel, a_workOne, a_workTwo, a_workPhase, a_workLow, a_memoStamp, a_memoOne, a_memoTwo, a_memoLevel, a_memoGot) S (xl_hf hb (by omega) rfl (f_active, f_outPlace, f_outHeader, f_freeNode, f_freeCount, f_keptDiagram, f_depth, f_got, f_stamp, a_links, a_ruleCount, a_matches, a_actions, a_changes, a_states, a_places, a_headers, a_tables, a_treated, a_nodes, a_following, a_marked, a_bucket, a_now, a_next, a_layer, a_workLevel, a_workOne, a_workTwo, a_workPhase, a_workLow, a_memoStamp, a_memoOne, a_memoTwo, a_memoLevel, a_memoGot) S ?_)))
  rw [nI_1, show 5 - j + 1 = 6 - j by omega]
  exact xp_push hd (f_active, f_outPlace, f_outHeader, f_freeNode, f_freeCount, f_keptDiagram, f_depth, f_got, f_stamp, a_links, a_ruleCount, a_matches, a_actions, a_changes, a_states, a_places, a_headers, a_tables, a_treated, a_nodes, a_following, a_marked, a_bucket, a_now, a_next, a_layer, a_workLevel, a_workOne, a_workTwo, a_workPhase, a_workLow, a_memoStamp, a_memoOne, a_memoTwo, a_memoLevel, a_memoGot) e hp
theorem xc_al1 {post : SX → Prop} {d j a b ph g r : Nat} {β : Bool} {F : List Nat} (hd : d < 16) (hj : j < 6) (hph : ph ≠ 0) (hph2 : ph ≤ 2) (hb : st_al F b) : ∀ u u2 : SX, st_Ok (bx_S u) F → gx_depth u = nI (d + 1) → gx_got u = nI g → (∀ post : Int32 → SX → Prop, post (nI r) u2 → wpX_node post u (nI (5 - j)) (nI (if β = true then dg_hf (st_nd (bx_S u)) b (5 - j) false else g)) (nI (if β = true then g else dg_hf (st_nd (bx_S u)) b (5 - j) true))) → gx_depth u2 = nI (d + 1) → post (xw_f u2 d (nI r)) → wpX_chooseAlong post u (nI (5 - j)) (nI a) (nI b) (nI ph) (nI β.toNat) := by
  rintro ⟨f_active, f_outPlace, f_outHeader, f_freeNode, f_freeCount, f_keptDiagram, f_depth, f_got, f_stamp, a_links, a_ruleCount, a_matches, a_actions, a_changes, a_states, a_places, a_headers, a_tables, a_treated, a_nodes, a_following, a_marked, a_bucket, a_now, a_next, a_layer, a_workLevel, a_workOne, a_workTwo, a_workPhase, a_workLow, a_memoStamp, a_memoOne, a_memoTwo, a_memoLevel, a_memoGot⟩ u2 S e eg HN e2 hp
  have ed : f_depth - 1 = nI d := by rw [show f_depth = nI (d + 1) from e, nI_pred]
  have eg' : f_got = nI g := eg
  subst eg'
  have hfin : wX_chooseAlong_87 post (nI d) (nI r) (gx_active u2) (gx_outPlace u2) (gx_outHeader u2) (gx_freeNode u2) (gx_freeCount u2) (gx_keptDiagram u2) (gx_depth u2) (gx_got u2) (gx_stamp u2) (gx_links u2) (gx_ruleCount u2) (gx_matches u2) (gx_actions u2) (gx_changes u2) (gx_states u2) (gx_places u2) (gx_headers u2) (gx_tables u2) (gx_treated u2) (gx_nodes u2) (gx_following u2) (gx_marked u2) (gx_bucket u2) (gx_now u2) (gx_next u2) (gx_layer u2) (gx_workLevel u2) (gx_workOne u2) (gx_workTwo u2) (gx_workPhase u2) (gx_workLow u2) (gx_memoStamp u2) (gx_memoOne u2) (gx_memoTwo u2) (gx_memoLevel u2) (gx_memoGot u2) := by
    obtain ⟨f_active2, f_outPlace2, f_outHeader2, f_freeNode2, f_freeCount2, f_keptDiagram2, f_depth2, f_got2, f_stamp2, a_links2, a_ruleCount2, a_matches2, a_actions2, a_changes2, a_states2, a_places2, a_headers2, a_tables2, a_treated2, a_nodes2, a_following2, a_marked2, a_bucket2, a_now2, a_next2, a_layer2, a_workLevel2, a_workOne2, a_workTwo2, a_workPhase2, a_workLow2, a_memoStamp2, a_memoOne2, a_memoTwo2, a_memoLevel2, a_memoGot2⟩ := u2
    exact xp_fin hd _ e2 hp
  refine nm_r ed (br_f (nb_ne (b := 0) (by omega) (by decide) hph) (xl_hf (b := !β) hb (by omega) (nb_s1 β) (f_active, f_outPlace, f_outHeader, f_freeNode, f_freeCount, f_keptDiagram, f_depth, nI g, f_stamp, a_links, a_ruleCount, a_matches, a_actions, a_changes, a_states, a_places, a_headers, a_tables, a_treated, a_nodes, a_following, a_marked, a_bucket, a_now, a_next, a_layer, a_workLevel, a_workOne, a_workTwo, a_workPhase, a_workLow, a_memoStamp, a_memoOne, a_memoTwo, a_memoLevel, a_memoGot) S ?_))
  cases β
  · rw [if_neg (by decide), if_neg (by decide)] at HN
    refine br_t rfl (HN _ ?_)
    obtain ⟨f_active2, f_outPlace2, f_outHeader2, f_freeNode2, f_freeCount2, f_keptDiagram2, f_depth2, f_got2, f_stamp2, a_links2, a_ruleCount2, a_matches2, a_actions2, a_changes2, a_states2, a_places2, a_headers2, a_tables2, a_treated2, a_nodes2, a_following2, a_marked2, a_bucket2, a_now2, a_next2, a_layer2, a_workLevel2, a_workOne2, a_workTwo2, a_workPhase2, a_workLow2, a_memoStamp2, a_memoOne2, a_memoTwo2, a_memoLevel2, a_memoGot2⟩ := u2
    exact hfin
  · rw [if_pos rfl, if_pos rfl] at HN
    refine br_f (by decide) (HN _ ?_)
    obtain ⟨f_active2, f_outPlace2, f_outHeader2, f_freeNode2, f_freeCount2, f_keptDiagram2, f_depth2, f_got2, f_stamp2, a_links2, a_ruleCount2, a_matches2, a_actions2, a_changes2, a_states2, a_places2, a_headers2, a_tables2, a_treated2, a_nodes2, a_following2, a_marked2, a_bucket2, a_now2, a_next2, a_layer2, a_workLevel2, a_workOne2, a_workTwo2, a_workPhase2, a_workLow2, a_memoStamp2, a_memoOne2, a_memoTwo2, a_memoLevel2, a_memoGot2⟩ := u2
    exact hfin
theorem xc_58 {post : SX → Prop} {d j a b : Nat} {β : Bool} {F : List Nat} (hd : d + 1 < 16) (hj : j < 6) (ha : st_al F a) (hb : st_al F b) {y : Int32} (hy : y = nI β.toNat) : ∀ u : SX, st_Ok (bx_S u) F → gx_depth u = nI (d + 1) → post (xw_p u (d + 1) (nI (6 - j)) (nI (dg_hf (st_nd (bx_S u)) a (5 - j) β)) (nI (dg_hf (st_nd (bx_S u)) b (5 - j) β))) → wX_chooseBoth_58 post (nI (5 - j)) (nI a) (nI b) y (gx_active u) (gx_outPlace u) (gx_outHeader u) (gx_freeNode u) (gx_freeCount u) (gx_keptDiagram u) (gx_depth u) (gx_got u) (gx_stamp u) (gx_links u) (gx_ruleCount u) (gx_matches u) (gx_actions u) (gx_changes u) (gx_states u) (gx_places u) (gx_headers u) (gx_tables u) (gx_treated u) (gx_nodes u) (gx_following u) (gx_marked u) (gx_bucket u) (gx_now u) (gx_next u) (gx_layer u) (gx_workLevel u) (gx_workOne u) (gx_workTwo u) (gx_workPhase u) (gx_workLow u) (gx_memoStamp u) (gx_memoOne u) (gx_memoTwo u) (gx_memoLevel u) (gx_memoGot u) := by
  rintro ⟨f_active, f_outPlace, f_outHeader, f_freeNode, f_freeCount, f_keptDiagram, f_depth, f_got, f_stamp, a_links, a_ruleCount, a_matches, a_actions, a_changes, a_states, a_places, a_headers, a_tables, a_treated, a_nodes, a_following, a_marked, a_bucket, a_now, a_next, a_layer, a_workLevel, a_workOne, a_workTwo, a_workPhase, a_workLow, a_memoStamp, a_memoOne, a_memoTwo, a_memoLevel, a_memoGot⟩ S e hp
  refine xl_hf ha (by omega) hy (f_active, f_outPlace, f_outHeader, f_freeNode, f_freeCount, f_keptDiagram, f_depth, f_got, f_stamp, a_links, a_ruleCount, a_matches, a_actions, a_changes, a_states, a_places, a_headers, a_tables, a_treated, a_nodes, a_following, a_marked, a_bucket, a_now, a_next, a_layer, a_workLevel, a_workOne, a_workTwo, a_workPhase, a_workLow, a_memoStamp, a_memoOne, a_memoTwo, a_memoLevel, a_memoGot) S (xl_hf hb (by omega) hy (f_active, f_outPlace, f_outHeader, f_freeNode, f_freeCount, f_keptDiagram, f_depth, f_got, f_stamp, a_links, a_ruleCount, a_matches, a_actions, a_changes, a_states, a_places, a_headers, a_tables, a_treated, a_nodes, a_following, a_marked, a_bucket, a_now, a_next, a_layer, a_workLevel, a_workOne, a_workTwo, a_workPhase, a_workLow, a_memoStamp, a_memoOne, a_memoTwo, a_memoLevel, a_memoGot) S ?_)
  rw [nI_1, show 5 - j + 1 = 6 - j by omega]
  exact xp_push hd (f_active, f_outPlace, f_outHeader, f_freeNode, f_freeCount, f_keptDiagram, f_depth, f_got, f_stamp, a_links, a_ruleCount, a_matches, a_actions, a_changes, a_states, a_places, a_headers, a_tables, a_treated, a_nodes, a_following, a_marked, a_bucket, a_now, a_next, a_layer, a_workLevel, a_workOne, a_workTwo, a_workPhase, a_workLow, a_memoStamp, a_memoOne, a_memoTwo, a_memoLevel, a_memoGot) e hp
theorem xc_bo0 {post : SX → Prop} {d j a b : Nat} {F : List Nat} (hd : d + 1 < 16) (hj : j < 6) (ha : st_al F a) (hb : st_al F b) : ∀ u : SX, st_Ok (bx_S u) F → gx_depth u = nI (d + 1) → post (xw_p u (d + 1) (nI (6 - j)) (nI (dg_hf (st_nd (bx_S u)) a (5 - j) false)) (nI (dg_hf (st_nd (bx_S u)) b (5 - j) false))) → wpX_chooseBoth post u (nI (5 - j)) (nI a) (nI b) 0 := by
  rintro ⟨f_active, f_outPlace, f_outHeader, f_freeNode, f_freeCount, f_keptDiagram, f_depth, f_got, f_stamp, a_links, a_ruleCount, a_matches, a_actions, a_changes, a_states, a_places, a_headers, a_tables, a_treated, a_nodes, a_following, a_marked, a_bucket, a_now, a_next, a_layer, a_workLevel, a_workOne, a_workTwo, a_workPhase, a_workLow, a_memoStamp, a_memoOne, a_memoTwo, a_memoLevel, a_memoGot⟩ S e hp
  exact nm_e (br_f (by decide) (br_f (by decide) (xc_58 hd hj ha hb (β := false) rfl (f_active, f_outPlace, f_outHeader, f_freeNode, f_freeCount, f_keptDiagram, f_depth, f_got, f_stamp, a_links, a_ruleCount, a_matches, a_actions, a_changes, a_states, a_places, a_headers, a_tables, a_treated, a_nodes, a_following, a_marked, a_bucket, a_now, a_next, a_layer, a_workLevel, a_workOne, a_workTwo, a_workPhase, a_workLow, a_memoStamp, a_memoOne, a_memoTwo, a_memoLevel, a_memoGot) S e hp)))
theorem xc_bo1 {post : SX → Prop} {d j a b : Nat} {F : List Nat} (hd : d + 1 < 16) (hj : j < 6) (ha : st_al F a) (hb : st_al F b) : ∀ u : SX, st_Ok (bx_S u) F → gx_depth u = nI (d + 1) → post (xw_p (xw_l u d (gx_got u)) (d + 1) (nI (6 - j)) (nI (dg_hf (st_nd (bx_S u)) a (5 - j) true)) (nI (dg_hf (st_nd (bx_S u)) b (5 - j) true))) → wpX_chooseBoth post u (nI (5 - j)) (nI a) (nI b) 1 := by
  intro u S e hp
  have h := xc_58 (post := post) (y := 1) hd hj ha hb (β := true) nb_t1 (xw_l u d (gx_got u)) S e hp
  obtain ⟨f_active, f_outPlace, f_outHeader, f_freeNode, f_freeCount, f_keptDiagram, f_depth, f_got, f_stamp, a_links, a_ruleCount, a_matches, a_actions, a_changes, a_states, a_places, a_headers, a_tables, a_treated, a_nodes, a_following, a_marked, a_bucket, a_now, a_next, a_layer, a_workLevel, a_workOne, a_workTwo, a_workPhase, a_workLow, a_memoStamp, a_memoOne, a_memoTwo, a_memoLevel, a_memoGot⟩ := u
  have ed : f_depth - 1 = nI d := by rw [show f_depth = nI (d + 1) from e, nI_pred]
  have hc : (nI d).toNatClampNeg = d := nI_clamp (by omega)
  refine nm_r ed (br_f (by decide) (br_t rfl (And.intro (vp_in_nI (by omega) (by decide)) ?_)))
  rw [hc]
  exact nm_e h
theorem xc_bo2 {post : SX → Prop} {d j a b l g r : Nat} (hd : d < 16) : ∀ u u2 : SX, gx_depth u = nI (d + 1) → gx_got u = nI g → gx_workLow u d = nI l → (∀ post : Int32 → SX → Prop, post (nI r) u2 → wpX_node post u (nI (5 - j)) (nI l) (nI g)) → gx_depth u2 = nI (d + 1) → post (xw_f u2 d (nI r)) → wpX_chooseBoth post u (nI (5 - j)) (nI a) (nI b) 2 := by
  rintro ⟨f_active, f_outPlace, f_outHeader, f_freeNode, f_freeCount, f_keptDiagram, f_depth, f_got, f_stamp, a_links, a_ruleCount, a_matches, a_actions, a_changes, a_states, a_places, a_headers, a_tables, a_treated, a_nodes, a_following, a_marked, a_bucket, a_now, a_next, a_layer, a_workLevel, a_workOne, a_workTwo, a_workPhase, a_workLow, a_memoStamp, a_memoOne, a_memoTwo, a_memoLevel, a_memoGot⟩ u2 e eg el HN e2 hp
  have ed : f_depth - 1 = nI d := by rw [show f_depth = nI (d + 1) from e, nI_pred]
  have eg' : f_got = nI g := eg
  subst eg'
  have el' : a_workLow (nI d).toNatClampNeg = nI l := by rw [nI_clamp (by omega)]; exact el
  refine nm_r ed (br_t rfl (And.intro (vp_in_nI (by omega) (by decide)) ?_))
  rw [el']
  refine HN _ ?_
  obtain ⟨f_active2, f_outPlace2, f_outHeader2, f_freeNode2, f_freeCount2, f_keptDiagram2, f_depth2, f_got2, f_stamp2, a_links2, a_ruleCount2, a_matches2, a_actions2, a_changes2, a_states2, a_places2, a_headers2, a_tables2, a_treated2, a_nodes2, a_following2, a_marked2, a_bucket2, a_now2, a_next2, a_layer2, a_workLevel2, a_workOne2, a_workTwo2, a_workPhase2, a_workLow2, a_memoStamp2, a_memoOne2, a_memoTwo2, a_memoLevel2, a_memoGot2⟩ := u2
  refine xp_fin hd _ e2 ?_
  exact hp
end
section
/-! what a work keeps; the memo -/
def xw_B (u u' : SX) (d : Nat) : Prop := ∀ i, i < d → gx_workLevel u' i = gx_workLevel u i ∧ gx_workOne u' i = gx_workOne u i ∧ gx_workTwo u' i = gx_workTwo u i ∧ gx_workPhase u' i = gx_workPhase u i ∧ gx_workLow u' i = gx_workLow u i
def xw_C (u u' : SX) : Prop := bx_C u' = bx_C u ∧ bx_D u' = bx_D u ∧ gx_marked u' = gx_marked u ∧ gx_stamp u' = gx_stamp u
theorem xw_C_t {u u' u2 : SX} (h : xw_C u u') (h2 : xw_C u' u2) : xw_C u u2 := ⟨h2.1.trans h.1, h2.2.1.trans h.2.1, h2.2.2.1.trans h.2.2.1, h2.2.2.2.trans h.2.2.2⟩
theorem xw_B_t {u u' u2 : SX} {d : Nat} (h : xw_B u u' d) (h2 : xw_B u' u2 d) : xw_B u u2 d := fun i hi => ⟨(h2 i hi).1.trans (h i hi).1, (h2 i hi).2.1.trans (h i hi).2.1, (h2 i hi).2.2.1.trans (h i hi).2.2.1, (h2 i hi).2.2.2.1.trans (h i hi).2.2.2.1, (h2 i hi).2.2.2.2.trans (h i hi).2.2.2.2⟩
theorem xw_B_le {u u' : SX} {d d' : Nat} (h : xw_B u u' d') (hd : d ≤ d') : xw_B u u' d := fun i hi => h i (by omega)
theorem xw_B_p (u : SX) (d : Nat) (p0 p1 p2 : Int32) : xw_B u (xw_p u d p0 p1 p2) d := fun i hi => ⟨pk_un (by omega), pk_un (by omega), pk_un (by omega), pk_un (by omega), rfl⟩
theorem xw_B_h (u : SX) (d : Nat) (x : Int32) : xw_B u (xw_h u d x) d := fun i hi => ⟨rfl, rfl, rfl, pk_un (by omega), rfl⟩
theorem xw_B_l (u : SX) (d : Nat) (x : Int32) : xw_B u (xw_l u d x) d := fun i hi => ⟨rfl, rfl, rfl, rfl, pk_un (by omega)⟩
theorem xw_B_f (u : SX) (d : Nat) (x : Int32) : xw_B u (xw_f u d x) d := fun i hi => ⟨rfl, rfl, rfl, rfl, rfl⟩
theorem xk_d {u u' : SX} (h : bx_W u' = bx_W u) : gx_depth u' = gx_depth u := congrArg (fun z => z.1) h
theorem xk_wl {u u' : SX} (h : bx_W u' = bx_W u) : gx_workLevel u' = gx_workLevel u := congrArg (fun z => z.2.1) h
theorem xk_wo {u u' : SX} (h : bx_W u' = bx_W u) : gx_workOne u' = gx_workOne u := congrArg (fun z => z.2.2.1) h
theorem xk_wt {u u' : SX} (h : bx_W u' = bx_W u) : gx_workTwo u' = gx_workTwo u := congrArg (fun z => z.2.2.2.1) h
theorem xk_wp {u u' : SX} (h : bx_W u' = bx_W u) : gx_workPhase u' = gx_workPhase u := congrArg (fun z => z.2.2.2.2.1) h
theorem xk_ww {u u' : SX} (h : bx_W u' = bx_W u) : gx_workLow u' = gx_workLow u := congrArg (fun z => z.2.2.2.2.2) h
theorem xk_s {u u' : SX} (h : bx_M u' = bx_M u) : gx_stamp u' = gx_stamp u := congrArg (fun z => z.1) h
theorem xk_ms {u u' : SX} (h : bx_M u' = bx_M u) : gx_memoStamp u' = gx_memoStamp u := congrArg (fun z => z.2.1) h
theorem xk_mo {u u' : SX} (h : bx_M u' = bx_M u) : gx_memoOne u' = gx_memoOne u := congrArg (fun z => z.2.2.1) h
theorem xk_mt {u u' : SX} (h : bx_M u' = bx_M u) : gx_memoTwo u' = gx_memoTwo u := congrArg (fun z => z.2.2.2.1) h
theorem xk_ml {u u' : SX} (h : bx_M u' = bx_M u) : gx_memoLevel u' = gx_memoLevel u := congrArg (fun z => z.2.2.2.2.1) h
theorem xk_mg {u u' : SX} (h : bx_M u' = bx_M u) : gx_memoGot u' = gx_memoGot u := congrArg (fun z => z.2.2.2.2.2) h
theorem xk_B {u u' : SX} (h : bx_W u' = bx_W u) (d : Nat) : xw_B u u' d := fun i _ => ⟨by rw [xk_wl h], by rw [xk_wo h], by rw [xk_wt h], by rw [xk_wp h], by rw [xk_ww h]⟩
theorem xk_C {u u' : SX} (h : xs_K u u') : xw_C u u' := ⟨h.1, h.2.1, h.2.2.2.2.2, xk_s h.2.2.1⟩
theorem xk_F {u u' : SX} (h : bx_W u' = bx_W u) {d L a b ph : Nat} (hF : xw_F u d L a b ph) : xw_F u' d L a b ph := by
  unfold xw_F
  rw [xk_wl h, xk_wo h, xk_wt h, xk_wp h]
  exact hF
/-- no slot has a later stamp -/
def ms_k (u : SX) (σ : Nat) : Prop := gx_stamp u = nI σ ∧ ∀ i, i < 256 → ∃ s, s ≤ σ ∧ gx_memoStamp u i = nI s
/-- an entry of the memo for every slot that has this stamp -/
def mo_g (sp : SB → List Nat → Nat → Nat → Nat → Nat → Prop) (σ : Nat) (u : SX) (F : List Nat) : Prop := ms_k u σ ∧ ∀ i, i < 256 → gx_memoStamp u i = gx_stamp u → ∃ L a b r : Nat, gx_memoLevel u i = nI L ∧ gx_memoOne u i = nI a ∧ gx_memoTwo u i = nI b ∧ gx_memoGot u i = nI r ∧ L < 8 ∧ a < 4096 ∧ b < 4096 ∧ sp (bx_S u) F L a b r
def mo_M (sp : SB → List Nat → Nat → Nat → Nat → Nat → Prop) : Prop := ∀ b F b' F' L a c r, st_Ok b F → st_E b F b' F' → sp b F L a c r → sp b' F' L a c r
theorem mo_E {sp : SB → List Nat → Nat → Nat → Nat → Nat → Prop} {σ : Nat} (hM : mo_M sp) {u u' : SX} {F F' : List Nat} (S : st_Ok (bx_S u) F) (E : st_E (bx_S u) F (bx_S u') F') (h : bx_M u' = bx_M u) (H : mo_g sp σ u F) : mo_g sp σ u' F' := by
  refine ⟨⟨(xk_s h).trans H.1.1, fun i hi => by rw [xk_ms h]; exact H.1.2 i hi⟩, ?_⟩
  intro i hi e
  rw [xk_ms h, xk_s h] at e
  obtain ⟨L, a, b, r, h1, h2, h3, h4, h5, h6, h7, h8⟩ := H.2 i hi e
  refine ⟨L, a, b, r, ?_, ?_, ?_, ?_, h5, h6, h7, hM _ _ _ _ _ _ _ _ S E h8⟩
  · rw [xk_ml h]; exact h1
  · rw [xk_mo h]; exact h2
  · rw [xk_mt h]; exact h3
  · rw [xk_mg h]; exact h4
theorem mo_f {sp : SB → List Nat → Nat → Nat → Nat → Nat → Prop} {σ : Nat} {u : SX} {F : List Nat} {d L a b ph r : Nat} (H : mo_g sp σ u F) (hF : xw_F u d L a b ph) (hL : L < 8) (ha : a < 4096) (hb : b < 4096) (hs : sp (bx_S u) F L a b r) : mo_g sp σ (xw_f u d (nI r)) F := by
  refine ⟨⟨H.1.1, fun i hi => ?_⟩, ?_⟩
  · by_cases z : i = xw_i u d
    · subst z
      exact ⟨σ, Nat.le_refl _, pk_us.trans H.1.1⟩
    · obtain ⟨s, h1, h2⟩ := H.1.2 i hi
      exact ⟨s, h1, (pk_un z).trans h2⟩
  intro i hi e
  by_cases z : i = xw_i u d
  · subst z
    refine ⟨L, a, b, r, ?_, ?_, ?_, ?_, hL, ha, hb, hs⟩
    · exact pk_us.trans hF.1
    · exact pk_us.trans hF.2.1
    · exact pk_us.trans hF.2.2.1
    · exact pk_us
  · have e' : gx_memoStamp u i = gx_stamp u := (pk_un (f := gx_memoStamp u) (x := gx_stamp u) z).symm.trans e
    obtain ⟨L', a', b', r', h1, h2, h3, h4, h5⟩ := H.2 i hi e'
    exact ⟨L', a', b', r', (pk_un z).trans h1, (pk_un z).trans h2, (pk_un z).trans h3, (pk_un z).trans h4, h5⟩
theorem mo_h {sp : SB → List Nat → Nat → Nat → Nat → Nat → Prop} {σ : Nat} {u : SX} {F : List Nat} {L a b : Nat} (H : mo_g sp σ u F) (hL : L < 8) (ha : a < 4096) (hb : b < 4096) (hh : xw_H u (nI L) (nI a) (nI b)) : ∃ r, gx_memoGot u (mm_f (nI L) (nI a) (nI b)) = nI r ∧ sp (bx_S u) F L a b r := by
  obtain ⟨h1, h2, h3, h4⟩ := hh
  obtain ⟨L', a', b', r, e1, e2, e3, e4, h5, h6, h7, h8⟩ := H.2 _ (mm_lt _ _ _) h1
  refine ⟨r, e4, ?_⟩
  have q1 : L' = L := (nI_eq (by omega) (by omega)).mp (e1.symm.trans h4)
  have q2 : a' = a := (nI_eq (by omega) (by omega)).mp (e2.symm.trans h2)
  have q3 : b' = b := (nI_eq (by omega) (by omega)).mp (e3.symm.trans h3)
  rw [← q1, ← q2, ← q3]
  exact h8
/-- after a work at depth d: the store, what is below it, the answer -/
def xw_D (sp : SB → List Nat → Nat → Nat → Nat → Nat → Prop) (σ M L a b : Nat) (u : SX) (F : List Nat) (u' : SX) (F' : List Nat) (d r : Nat) : Prop := st_Ok (bx_S u') F' ∧ st_E (bx_S u) F (bx_S u') F' ∧ F.length + 1 ≤ F'.length + M ∧ gx_depth u' = nI d ∧ xw_B u u' d ∧ xw_C u u' ∧ gx_got u' = nI r ∧ sp (bx_S u') F' L a b r ∧ mo_g sp σ u' F'
/-- the end of a work: a node has been made at u2 (all else as at u1), and is noted -/
theorem xw_end {sp : SB → List Nat → Nat → Nat → Nat → Nat → Prop} (hM : mo_M sp) {σ M L a b ph d r : Nat} {u u1 u2 : SX} {F F1 F2 : List Nat} (S1 : st_Ok (bx_S u1) F1) (E1 : st_E (bx_S u) F (bx_S u1) F1) (hB : xw_B u u1 d) (hC : xw_C u u1) (hm : mo_g sp σ u1 F1) (hF : xw_F u1 d L a b ph) (hK : xs_K u1 u2) (S2 : st_Ok (bx_S u2) F2) (E2 : st_E (bx_S u1) F1 (bx_S u2) F2) (hl : F.length + 1 ≤ F2.length + M) (hL : L < 8) (ha : a < 4096) (hb : b < 4096) (hs : sp (bx_S u2) F2 L a b r) : xw_D sp σ M L a b u F (xw_f u2 d (nI r)) F2 d r := by
  refine ⟨S2, st_E_t E1 E2, hl, rfl, ?_, ?_, rfl, hs, ?_⟩
  · exact xw_B_t (xw_B_t hB (xk_B hK.2.2.2.1 d)) (xw_B_f u2 d (nI r))
  · exact xw_C_t (xw_C_t hC (xk_C hK)) ⟨rfl, rfl, rfl, rfl⟩
  · exact mo_f (mo_E hM S1 E2 hK.2.2.1 hm) (xk_F hK.2.2.2.1 hF) hL ha hb hs
/-! single layers of setters, by rfl -/
theorem bx_C_p (u : SX) (d : Nat) (x y z : Int32) : bx_C (xw_p u d x y z) = bx_C u := rfl
theorem bx_D_p (u : SX) (d : Nat) (x y z : Int32) : bx_D (xw_p u d x y z) = bx_D u := rfl
theorem bx_M_p (u : SX) (d : Nat) (x y z : Int32) : bx_M (xw_p u d x y z) = bx_M u := rfl
theorem gx_got_p (u : SX) (d : Nat) (x y z : Int32) : gx_got (xw_p u d x y z) = gx_got u := rfl
theorem gx_marked_p (u : SX) (d : Nat) (x y z : Int32) : gx_marked (xw_p u d x y z) = gx_marked u := rfl
theorem gx_stamp_p (u : SX) (d : Nat) (x y z : Int32) : gx_stamp (xw_p u d x y z) = gx_stamp u := rfl
theorem bx_C_h (u : SX) (d : Nat) (x : Int32) : bx_C (xw_h u d x) = bx_C u := rfl
theorem bx_D_h (u : SX) (d : Nat) (x : Int32) : bx_D (xw_h u d x) = bx_D u := rfl
theorem bx_M_h (u : SX) (d : Nat) (x : Int32) : bx_M (xw_h u d x) = bx_M u := rfl
theorem gx_got_h (u : SX) (d : Nat) (x : Int32) : gx_got (xw_h u d x) = gx_got u := rfl
theorem gx_marked_h (u : SX) (d : Nat) (x : Int32) : gx_marked (xw_h u d x) = gx_marked u := rfl
theorem gx_stamp_h (u : SX) (d : Nat) (x : Int32) : gx_stamp (xw_h u d x) = gx_stamp u := rfl
theorem bx_C_l (u : SX) (d : Nat) (x : Int32) : bx_C (xw_l u d x) = bx_C u := rfl
theorem bx_D_l (u : SX) (d : Nat) (x : Int32) : bx_D (xw_l u d x) = bx_D u := rfl
theorem bx_M_l (u : SX) (d : Nat) (x : Int32) : bx_M (xw_l u d x) = bx_M u := rfl
theorem gx_got_l (u : SX) (d : Nat) (x : Int32) : gx_got (xw_l u d x) = gx_got u := rfl
theorem gx_marked_l (u : SX) (d : Nat) (x : Int32) : gx_marked (xw_l u d x) = gx_marked u := rfl
theorem gx_stamp_l (u : SX) (d : Nat) (x : Int32) : gx_stamp (xw_l u d x) = gx_stamp u := rfl
theorem gx_depth_p (u : SX) (d : Nat) (x y z : Int32) : gx_depth (xw_p u d x y z) = nI (d + 1) := rfl
theorem gx_workLevel_p (u : SX) (d : Nat) (x y z : Int32) : gx_workLevel (xw_p u d x y z) = upd (gx_workLevel u) d x := rfl
theorem gx_workOne_p (u : SX) (d : Nat) (x y z : Int32) : gx_workOne (xw_p u d x y z) = upd (gx_workOne u) d y := rfl
theorem gx_workTwo_p (u : SX) (d : Nat) (x y z : Int32) : gx_workTwo (xw_p u d x y z) = upd (gx_workTwo u) d z := rfl
theorem gx_workPhase_p (u : SX) (d : Nat) (x y z : Int32) : gx_workPhase (xw_p u d x y z) = upd (gx_workPhase u) d 0 := rfl
theorem gx_workLow_p (u : SX) (d : Nat) (x y z : Int32) : gx_workLow (xw_p u d x y z) = gx_workLow u := rfl
theorem gx_depth_h (u : SX) (d : Nat) (x : Int32) : gx_depth (xw_h u d x) = gx_depth u := rfl
theorem gx_workLevel_h (u : SX) (d : Nat) (x : Int32) : gx_workLevel (xw_h u d x) = gx_workLevel u := rfl
theorem gx_workOne_h (u : SX) (d : Nat) (x : Int32) : gx_workOne (xw_h u d x) = gx_workOne u := rfl
theorem gx_workTwo_h (u : SX) (d : Nat) (x : Int32) : gx_workTwo (xw_h u d x) = gx_workTwo u := rfl
theorem gx_workPhase_h (u : SX) (d : Nat) (x : Int32) : gx_workPhase (xw_h u d x) = upd (gx_workPhase u) d x := rfl
theorem gx_workLow_h (u : SX) (d : Nat) (x : Int32) : gx_workLow (xw_h u d x) = gx_workLow u := rfl
theorem gx_depth_l (u : SX) (d : Nat) (x : Int32) : gx_depth (xw_l u d x) = gx_depth u := rfl
theorem gx_workLevel_l (u : SX) (d : Nat) (x : Int32) : gx_workLevel (xw_l u d x) = gx_workLevel u := rfl
theorem gx_workOne_l (u : SX) (d : Nat) (x : Int32) : gx_workOne (xw_l u d x) = gx_workOne u := rfl
theorem gx_workTwo_l (u : SX) (d : Nat) (x : Int32) : gx_workTwo (xw_l u d x) = gx_workTwo u := rfl
theorem gx_workPhase_l (u : SX) (d : Nat) (x : Int32) : gx_workPhase (xw_l u d x) = gx_workPhase u := rfl
theorem gx_workLow_l (u : SX) (d : Nat) (x : Int32) : gx_workLow (xw_l u d x) = upd (gx_workLow u) d x := rfl
theorem mo_cg {sp : SB → List Nat → Nat → Nat → Nat → Nat → Prop} {σ : Nat} {u u' : SX} {F : List Nat} (hS : bx_S u' = bx_S u) (hM : bx_M u' = bx_M u) (H : mo_g sp σ u F) : mo_g sp σ u' F := by
  unfold mo_g ms_k
  rw [hS, xk_s hM, xk_ms hM, xk_mo hM, xk_mt hM, xk_ml hM, xk_mg hM]
  exact H
/-- a frame at d + 1 is pushed while the frame at d has its phase set -/
theorem xq_0 {u : SX} {d L0 a0 b0 ph0 : Nat} (hfr : xw_F u d L0 a0 b0 ph0) (L a b ph : Nat) : bx_S (xw_p (xw_h u d (nI ph)) (d + 1) (nI L) (nI a) (nI b)) = bx_S u ∧ bx_M (xw_p (xw_h u d (nI ph)) (d + 1) (nI L) (nI a) (nI b)) = bx_M u ∧ gx_depth (xw_p (xw_h u d (nI ph)) (d + 1) (nI L) (nI a) (nI b)) = nI (d + 1 + 1) ∧ xw_F (xw_p (xw_h u d (nI ph)) (d + 1) (nI L) (nI a) (nI b)) (d + 1) L a b 0 ∧ xw_C u (xw_p (xw_h u d (nI ph)) (d + 1) (nI L) (nI a) (nI b)) ∧ xw_B u (xw_p (xw_h u d (nI ph)) (d + 1) (nI L) (nI a) (nI b)) d ∧ xw_F (xw_p (xw_h u d (nI ph)) (d + 1) (nI L) (nI a) (nI b)) d L0 a0 b0 ph := by
  refine ⟨by rw [bx_S_p, bx_S_h], by rw [bx_M_p, bx_M_h], gx_depth_p _ _ _ _ _, ⟨?_, ?_, ?_, ?_⟩, ⟨?_, ?_, ?_, ?_⟩, ?_, ⟨?_, ?_, ?_, ?_⟩⟩
  · rw [gx_workLevel_p, pk_us]
  · rw [gx_workOne_p, pk_us]
  · rw [gx_workTwo_p, pk_us]
  · rw [gx_workPhase_p, pk_us]; rfl
  · rw [bx_C_p, bx_C_h]
  · rw [bx_D_p, bx_D_h]
  · rw [gx_marked_p, gx_marked_h]
  · rw [gx_stamp_p, gx_stamp_h]
  · exact xw_B_t (xw_B_h u d (nI ph)) (xw_B_le (xw_B_p (xw_h u d (nI ph)) (d + 1) _ _ _) (by omega))
  · rw [gx_workLevel_p, pk_un (by omega), gx_workLevel_h]; exact hfr.1
  · rw [gx_workOne_p, pk_un (by omega), gx_workOne_h]; exact hfr.2.1
  · rw [gx_workTwo_p, pk_un (by omega), gx_workTwo_h]; exact hfr.2.2.1
  · rw [gx_workPhase_p, pk_un (by omega), gx_workPhase_h, pk_us]
theorem xq_1 {u : SX} {d L0 a0 b0 ph0 : Nat} (hfr : xw_F u d L0 a0 b0 ph0) (L a b ph : Nat) (g : Int32) : bx_S (xw_p (xw_l (xw_h u d (nI ph)) d g) (d + 1) (nI L) (nI a) (nI b)) = bx_S u ∧ bx_M (xw_p (xw_l (xw_h u d (nI ph)) d g) (d + 1) (nI L) (nI a) (nI b)) = bx_M u ∧ gx_depth (xw_p (xw_l (xw_h u d (nI ph)) d g) (d + 1) (nI L) (nI a) (nI b)) = nI (d + 1 + 1) ∧ xw_F (xw_p (xw_l (xw_h u d (nI ph)) d g) (d + 1) (nI L) (nI a) (nI b)) (d + 1) L a b 0 ∧ xw_C u (xw_p (xw_l (xw_h u d (nI ph)) d g) (d + 1) (nI L) (nI a) (nI b)) ∧ xw_B u (xw_p (xw_l (xw_h u d (nI ph)) d g) (d + 1) (nI L) (nI a) (nI b)) d ∧ xw_F (xw_p (xw_l (xw_h u d (nI ph)) d g) (d + 1) (nI L) (nI a) (nI b)) d L0 a0 b0 ph ∧ gx_workLow (xw_p (xw_l (xw_h u d (nI ph)) d g) (d + 1) (nI L) (nI a) (nI b)) d = g := by
  refine ⟨by rw [bx_S_p, bx_S_l, bx_S_h], by rw [bx_M_p, bx_M_l, bx_M_h], gx_depth_p _ _ _ _ _, ⟨?_, ?_, ?_, ?_⟩, ⟨?_, ?_, ?_, ?_⟩, ?_, ⟨?_, ?_, ?_, ?_⟩, ?_⟩
  · rw [gx_workLevel_p, pk_us]
  · rw [gx_workOne_p, pk_us]
  · rw [gx_workTwo_p, pk_us]
  · rw [gx_workPhase_p, pk_us]; rfl
  · rw [bx_C_p, bx_C_l, bx_C_h]
  · rw [bx_D_p, bx_D_l, bx_D_h]
  · rw [gx_marked_p, gx_marked_l, gx_marked_h]
  · rw [gx_stamp_p, gx_stamp_l, gx_stamp_h]
  · exact xw_B_t (xw_B_t (xw_B_h u d (nI ph)) (xw_B_l _ d _)) (xw_B_le (xw_B_p _ (d + 1) _ _ _) (by omega))
  · rw [gx_workLevel_p, pk_un (by omega), gx_workLevel_l, gx_workLevel_h]; exact hfr.1
  · rw [gx_workOne_p, pk_un (by omega), gx_workOne_l, gx_workOne_h]; exact hfr.2.1
  · rw [gx_workTwo_p, pk_un (by omega), gx_workTwo_l, gx_workTwo_h]; exact hfr.2.2.1
  · rw [gx_workPhase_p, pk_un (by omega), gx_workPhase_l, gx_workPhase_h, pk_us]
  · rw [gx_workLow_p, gx_workLow_l, pk_us]
/-- the frame at d with its phase set -/
theorem xq_h {u : SX} {d L a b ph0 : Nat} (hfr : xw_F u d L a b ph0) (ph : Nat) : xw_C u (xw_h u d (nI ph)) ∧ xw_F (xw_h u d (nI ph)) d L a b ph := ⟨⟨rfl, rfl, rfl, rfl⟩, hfr.1, hfr.2.1, hfr.2.2.1, pk_us⟩
end
section
/-! choose: the machine against the function -/
def sp_c (m : Nat) (b : SB) (F : List Nat) (L a c r : Nat) : Prop := L ≤ 6 ∧ st_al F a ∧ st_al F c ∧ st_al F r ∧ L ≤ dg_lv (st_nd b r) ∧ ∀ h, dg_ev (st_nd b) (6 - L) r h = if mt_b m h (6 - L) = true then dg_ev (st_nd b) (6 - L) a h else dg_ev (st_nd b) (6 - L) c h
theorem sp_c_M (m : Nat) : mo_M (sp_c m) := by
  intro b F b' F' L a c r S E ⟨h1, h2, h3, h4, h5, h6⟩
  refine ⟨h1, st_E_al E h2, st_E_al E h3, st_E_al E h4, ?_, ?_⟩
  · rw [st_E_nd E h4]; exact h5
  · intro h
    rw [st_ev S E (by omega) h4, st_ev S E (by omega) h2, st_ev S E (by omega) h3]
    exact h6 h
def lx_c (post : Int32 → SX → Prop) (m n x : Nat) (u : SX) : Prop := wX_choose_25 post (nI m) n (nI x) (gx_active u) (gx_outPlace u) (gx_outHeader u) (gx_freeNode u) (gx_freeCount u) (gx_keptDiagram u) (gx_depth u) (gx_got u) (gx_stamp u) (gx_links u) (gx_ruleCount u) (gx_matches u) (gx_actions u) (gx_changes u) (gx_states u) (gx_places u) (gx_headers u) (gx_tables u) (gx_treated u) (gx_nodes u) (gx_following u) (gx_marked u) (gx_bucket u) (gx_now u) (gx_next u) (gx_layer u) (gx_workLevel u) (gx_workOne u) (gx_workTwo u) (gx_workPhase u) (gx_workLow u) (gx_memoStamp u) (gx_memoOne u) (gx_memoTwo u) (gx_memoLevel u) (gx_memoGot u)
def rn_c (m c : Nat) (u u' : SX) : Prop := ∀ (post : Int32 → SX → Prop) (n x : Nat), x + c ≤ 600 → lx_c post m n (x + c) u' → lx_c post m (n + c) x u
theorem rn_c_t {m c c' : Nat} {u u1 u2 : SX} (h1 : rn_c m c u u1) (h2 : rn_c m c' u1 u2) : rn_c m (c + c') u u2 := by
  intro post n x hx H
  have h3 := h2 post n (x + c) (by omega) (by rw [Nat.add_assoc]; exact H)
  have h4 := h1 post (n + c') x (by omega) h3
  rw [show n + (c + c') = n + c' + c by omega]
  exact h4
theorem rn_c_1 {m d : Nat} {u u' : SX} (hd : gx_depth u = nI (d + 1)) (h16 : d < 16) (H : ∀ post : SX → Prop, post u' → wpX_chooseStep post u (nI m)) : rn_c m 1 u u' := by
  intro post n x hx hl
  obtain ⟨f_active, f_outPlace, f_outHeader, f_freeNode, f_freeCount, f_keptDiagram, f_depth, f_got, f_stamp, a_links, a_ruleCount, a_matches, a_actions, a_changes, a_states, a_places, a_headers, a_tables, a_treated, a_nodes, a_following, a_marked, a_bucket, a_now, a_next, a_layer, a_workLevel, a_workOne, a_workTwo, a_workPhase, a_workLow, a_memoStamp, a_memoOne, a_memoTwo, a_memoLevel, a_memoGot⟩ := u
  refine br_f (nI_ge (b := 600) (by omega) (by decide)) (br_f (by rw [show f_depth = nI (d + 1) from hd]; exact nI_nle (by omega) (by omega)) (H _ ?_))
  obtain ⟨f_active2, f_outPlace2, f_outHeader2, f_freeNode2, f_freeCount2, f_keptDiagram2, f_depth2, f_got2, f_stamp2, a_links2, a_ruleCount2, a_matches2, a_actions2, a_changes2, a_states2, a_places2, a_headers2, a_tables2, a_treated2, a_nodes2, a_following2, a_marked2, a_bucket2, a_now2, a_next2, a_layer2, a_workLevel2, a_workOne2, a_workTwo2, a_workPhase2, a_workLow2, a_memoStamp2, a_memoOne2, a_memoTwo2, a_memoLevel2, a_memoGot2⟩ := u'
  exact nm_r (nI_1 x) hl
theorem xc_n0 {a b m k : Nat} (h : ¬ (a = b ∨ m / 64 % 2 ^ k = 0)) : a ≠ b ∧ m / 64 % 2 ^ k ≠ 0 := ⟨fun z => h (Or.inl z), fun z => h (Or.inr z)⟩
/-- one step: a frame of phase 0 that is neither plain nor known -/
theorem xc_s0 {m d j a b : Nat} {F : List Nat} {u : SX} (hm : m < 4096) (hd : d + 1 < 16) (hj : j < 6) (S : st_Ok (bx_S u) F) (ha : st_al F a) (hb : st_al F b) (e1 : gx_depth u = nI (d + 1)) (e2 : xw_F u d (5 - j) a b 0) (hA : ¬ (a = b ∨ m / 64 % 2 ^ (j + 1) = 0)) (hH : ¬ xw_H u (nI (5 - j)) (nI a) (nI b)) : rn_c m 1 u (xw_p (xw_h u d (nI 1)) (d + 1) (nI (6 - j)) (nI (dg_hf (st_nd (bx_S u)) a (5 - j) (m.testBit (j + 6) && m.testBit j))) (nI (dg_hf (st_nd (bx_S u)) b (5 - j) (m.testBit (j + 6) && m.testBit j)))) := by
  refine rn_c_1 e1 (by omega) (fun post hp => ?_)
  have e6 : 6 - (j + 1) = 5 - j := by omega
  refine xc_open (k := j + 1) (ph := 0) hm (by omega) (by omega) (by have := ha.1; omega) (by have := hb.1; omega) (by omega) u e1 (by rw [e6]; exact e2) (fun _ z => absurd z hA) (fun _ => ?_)
  rw [e6]
  refine xc_91 (by omega) u e1 (fun _ z => absurd z hH) (fun _ => ?_)
  refine xc_119 hm (by omega) hj u e2.2.2.2 (fun hc Q hQ => ?_) (fun hc Q hQ => ?_)
  · rw [hc, Bool.true_and] at hp
    exact xc_al0 hd hj ha hb (xw_h u d (nI (0 + 1))) S e1 (hQ _ hp)
  · rw [hc, Bool.false_and] at hp
    exact xc_bo0 hd hj ha hb (xw_h u d (nI (0 + 1))) S e1 (hQ _ hp)
theorem xc_s1 {m d j a b g r : Nat} {F : List Nat} {u u2 : SX} (hm : m < 4096) (hd : d + 1 < 16) (hj : j < 6) (S : st_Ok (bx_S u) F) (ha : st_al F a) (hb : st_al F b) (e1 : gx_depth u = nI (d + 1)) (e2 : xw_F u d (5 - j) a b 1) (eg : gx_got u = nI g) (hc : m.testBit (j + 6) = true) (HN : ∀ post : Int32 → SX → Prop, post (nI r) u2 → wpX_node post (xw_h u d (nI 2)) (nI (5 - j)) (nI (if m.testBit j = true then dg_hf (st_nd (bx_S u)) b (5 - j) false else g)) (nI (if m.testBit j = true then g else dg_hf (st_nd (bx_S u)) b (5 - j) true))) (hK : xs_K (xw_h u d (nI 2)) u2) : rn_c m 1 u (xw_f u2 d (nI r)) := by
  refine rn_c_1 e1 (by omega) (fun post hp => ?_)
  have e6 : 6 - (j + 1) = 5 - j := by omega
  have e3 : gx_depth u2 = nI (d + 1) := (xk_d hK.2.2.2.1).trans e1
  refine xc_open (k := j + 1) (ph := 1) hm (by omega) (by omega) (by have := ha.1; omega) (by have := hb.1; omega) (by omega) u e1 (by rw [e6]; exact e2) (fun z _ => absurd z (by decide)) (fun _ => ?_)
  rw [e6]
  refine xc_91 (by omega) u e1 (fun z _ => absurd z (by decide)) (fun _ => ?_)
  refine xc_119 hm (by omega) hj u e2.2.2.2 (fun _ Q hQ => ?_) (fun hc' => absurd (hc.symm.trans hc') (by decide))
  exact xc_al1 (by omega) hj (by decide) (by omega) hb (xw_h u d (nI (1 + 1))) u2 S e1 eg HN e3 (hQ _ hp)
theorem xc_s2 {m d j a b : Nat} {F : List Nat} {u : SX} (hm : m < 4096) (hd : d + 1 < 16) (hj : j < 6) (S : st_Ok (bx_S u) F) (ha : st_al F a) (hb : st_al F b) (e1 : gx_depth u = nI (d + 1)) (e2 : xw_F u d (5 - j) a b 1) (hc : m.testBit (j + 6) = false) : rn_c m 1 u (xw_p (xw_l (xw_h u d (nI 2)) d (gx_got u)) (d + 1) (nI (6 - j)) (nI (dg_hf (st_nd (bx_S u)) a (5 - j) true)) (nI (dg_hf (st_nd (bx_S u)) b (5 - j) true))) := by
  refine rn_c_1 e1 (by omega) (fun post hp => ?_)
  have e6 : 6 - (j + 1) = 5 - j := by omega
  refine xc_open (k := j + 1) (ph := 1) hm (by omega) (by omega) (by have := ha.1; omega) (by have := hb.1; omega) (by omega) u e1 (by rw [e6]; exact e2) (fun z _ => absurd z (by decide)) (fun _ => ?_)
  rw [e6]
  refine xc_91 (by omega) u e1 (fun z _ => absurd z (by decide)) (fun _ => ?_)
  refine xc_119 hm (by omega) hj u e2.2.2.2 (fun hc' => absurd (hc.symm.trans hc') (by decide)) (fun _ Q hQ => ?_)
  exact xc_bo1 hd hj ha hb (xw_h u d (nI (1 + 1))) S e1 (hQ _ hp)
theorem xc_s3 {m d j a b g l r : Nat} {u u2 : SX} (hm : m < 4096) (hd : d + 1 < 16) (hj : j < 6) (ha : a < 4096) (hb : b < 4096) (e1 : gx_depth u = nI (d + 1)) (e2 : xw_F u d (5 - j) a b 2) (eg : gx_got u = nI g) (el : gx_workLow u d = nI l) (hc : m.testBit (j + 6) = false) (HN : ∀ post : Int32 → SX → Prop, post (nI r) u2 → wpX_node post (xw_h u d (nI 3)) (nI (5 - j)) (nI l) (nI g)) (hK : xs_K (xw_h u d (nI 3)) u2) : rn_c m 1 u (xw_f u2 d (nI r)) := by
  refine rn_c_1 e1 (by omega) (fun post hp => ?_)
  have e6 : 6 - (j + 1) = 5 - j := by omega
  have e3 : gx_depth u2 = nI (d + 1) := (xk_d hK.2.2.2.1).trans e1
  refine xc_open (k := j + 1) (ph := 2) hm (by omega) (by omega) ha hb (by omega) u e1 (by rw [e6]; exact e2) (fun z _ => absurd z (by decide)) (fun _ => ?_)
  rw [e6]
  refine xc_91 (by omega) u e1 (fun z _ => absurd z (by decide)) (fun _ => ?_)
  refine xc_119 hm (by omega) hj u e2.2.2.2 (fun hc' => absurd (hc.symm.trans hc') (by decide)) (fun _ Q hQ => ?_)
  exact xc_bo2 (by omega) (xw_h u d (nI (2 + 1))) u2 e1 eg el HN e3 (hQ _ hp)
end
section
/-! choose: the whole run -/
theorem dg_ev_s (nd : Nat → Nat) (k n h : Nat) : dg_ev nd (k + 1) n h = dg_ev nd k (dg_hf nd n (5 - k) (h.testBit k)) h := rfl
theorem xc_run {m σ : Nat} (hm : m < 4096) : ∀ k, k ≤ 6 → ∀ (u : SX) (F : List Nat) (d a b : Nat), st_Ok (bx_S u) F → mo_g (sp_c m) σ u F → gx_depth u = nI (d + 1) → d + k < 16 → xw_F u d (6 - k) a b 0 → st_al F a → st_al F b → 6 - k ≤ dg_lv (st_nd (bx_S u) a) → 6 - k ≤ dg_lv (st_nd (bx_S u) b) → 2 ^ k ≤ F.length + 1 → ∃ (c : Nat) (u' : SX) (F' : List Nat) (r : Nat), c + 3 ≤ 4 * 2 ^ k ∧ rn_c m c u u' ∧ xw_D (sp_c m) σ (2 ^ k) (6 - k) a b u F u' F' d r := by
  intro k
  induction k with
  | zero =>
    intro hk u F d a b S hmo hd hdk hfr ha hb la lb hF
    have hr : m / 64 % 2 ^ 0 = 0 := Nat.mod_one _
    refine ⟨1, sx_dg u (nI d) (nI a), F, a, by decide, ?_, S, st_E_r _ _, by omega, rfl, fun i _ => ⟨rfl, rfl, rfl, rfl, rfl⟩, ⟨rfl, rfl, rfl, rfl⟩, rfl, ⟨by omega, ha, hb, ha, la, fun h => ?_⟩, hmo⟩
    · refine rn_c_1 hd (by omega) (fun post hp => ?_)
      exact xc_open (k := 0) (ph := 0) hm (by omega) (by omega) (by have := ha.1; omega) (by have := hb.1; omega) (by omega) u hd hfr (fun _ _ => hp) (fun z => absurd hr (by rcases z with z | z; exact absurd rfl z; exact z.2))
    · show dg_ev _ 0 a h = if mt_b m h 0 = true then _ else _
      rw [show mt_b m h 0 = true from rfl, if_pos rfl]
  | succ j ih =>
    intro hk u F d a b S hmo hd hdk hfr ha hb la lb hF
    have hp2 : 2 ^ (j + 1) = 2 * 2 ^ j := by rw [Nat.pow_succ]; omega
    have hpos : 0 < 2 ^ j := Nat.two_pow_pos j
    have e6 : 6 - (j + 1) = 5 - j := by omega
    have e66 : 6 - (5 - j) = j + 1 := by omega
    have e65 : 6 - (6 - j) = j := by omega
    have ha4 := ha.1
    have hb4 := hb.1
    rw [e6] at hfr la lb ⊢
    by_cases hA : a = b ∨ m / 64 % 2 ^ (j + 1) = 0
    · refine ⟨1, sx_dg u (nI d) (nI a), F, a, by omega, ?_, S, st_E_r _ _, by omega, rfl, fun i _ => ⟨rfl, rfl, rfl, rfl, rfl⟩, ⟨rfl, rfl, rfl, rfl⟩, rfl, ⟨by omega, ha, hb, ha, la, fun h => ?_⟩, hmo⟩
      · refine rn_c_1 hd (by omega) (fun post hp => ?_)
        exact xc_open (k := j + 1) (ph := 0) hm (by omega) (by omega) ha4 hb4 (by omega) u hd (by rw [e6]; exact hfr) (fun _ _ => hp) (fun z => absurd hA (by
          rcases z with z | z
          · exact absurd rfl z
          · exact fun y => y.elim z.1 z.2))
      · rw [e66]
        rcases hA with e | e
        · rw [e, ite_self]
        · rw [if_pos (mt_rest e)]
    · by_cases hH : xw_H u (nI (5 - j)) (nI a) (nI b)
      · obtain ⟨r, er, hs⟩ := mo_h hmo (by omega) ha4 hb4 hH
        refine ⟨1, sx_dg u (nI d) (nI r), F, r, by omega, ?_, S, st_E_r _ _, by omega, rfl, fun i _ => ⟨rfl, rfl, rfl, rfl, rfl⟩, ⟨rfl, rfl, rfl, rfl⟩, rfl, hs, hmo⟩
        refine rn_c_1 hd (by omega) (fun post hp => ?_)
        refine xc_open (k := j + 1) (ph := 0) hm (by omega) (by omega) ha4 hb4 (by omega) u hd (by rw [e6]; exact hfr) (fun _ z => absurd z hA) (fun _ => ?_)
        rw [e6]
        refine xc_91 (by omega) u hd (fun _ _ => by rw [er]; exact hp) (fun z => absurd hH (by
          rcases z with z | z
          · exact absurd rfl z
          · exact z))
      · have W := st_W S
        generalize hβ : (m.testBit (j + 6) && m.testBit j) = β
        have r0 := xc_s0 hm (by omega) (by omega) S ha hb hd hfr hA hH
        rw [hβ] at r0
        have a1 := dg_hf_al W ha (L := 5 - j) (by omega) β
        have b1 := dg_hf_al W hb (L := 5 - j) (by omega) β
        have la1 := dg_hf_lv W ha (L := 5 - j) (by omega) β la
        have lb1 := dg_hf_lv W hb (L := 5 - j) (by omega) β lb
        generalize hu1 : xw_p (xw_h u d (nI 1)) (d + 1) (nI (6 - j)) (nI (dg_hf (st_nd (bx_S u)) a (5 - j) β)) (nI (dg_hf (st_nd (bx_S u)) b (5 - j) β)) = u1 at r0
        have hq := xq_0 hfr (6 - j) (dg_hf (st_nd (bx_S u)) a (5 - j) β) (dg_hf (st_nd (bx_S u)) b (5 - j) β) 1
        rw [hu1] at hq
        obtain ⟨q1, q0, q3, q4, q5, q6, q7⟩ := hq
        have q2 : mo_g (sp_c m) σ u1 F := mo_cg q1 q0 hmo
        obtain ⟨c1, u2, F2, r1, hc1, rn1, S2, E2, l2, d2, B2, C2, g2, s2, m2⟩ := ih (by omega) u1 F (d + 1) _ _ (by rw [q1]; exact S) q2 q3 (by omega) q4 a1 b1 (by rw [q1]; omega) (by rw [q1]; omega) (by omega)
        rw [q1] at E2
        have f2 : xw_F u2 d (5 - j) a b 1 := by
          have := B2 d (by omega)
          exact ⟨this.1.trans q7.1, this.2.1.trans q7.2.1, this.2.2.1.trans q7.2.2.1, this.2.2.2.1.trans q7.2.2.2⟩
        have rn02 := rn_c_t r0 rn1
        have B02 : xw_B u u2 d := xw_B_t q6 (xw_B_le B2 (by omega))
        have C02 : xw_C u u2 := xw_C_t q5 C2
        have a2 := st_E_al E2 ha
        have b2 := st_E_al E2 hb
        have na2 := st_E_nd E2 ha
        have nb2 := st_E_nd E2 hb
        obtain ⟨s2a, s2b, s2c, s2d, s2e, s2f⟩ := s2
        rw [e65] at s2f
        have ha1 : dg_hf (st_nd (bx_S u2)) a (5 - j) β = dg_hf (st_nd (bx_S u)) a (5 - j) β := dg_hf_ext na2 _ _
        have hb1 : dg_hf (st_nd (bx_S u2)) b (5 - j) β = dg_hf (st_nd (bx_S u)) b (5 - j) β := dg_hf_ext nb2 _ _
        rw [← ha1, ← hb1] at s2f
        have W2 := st_W S2
        by_cases hc : m.testBit (j + 6) = true
        · -- the bit must match
          have hβ' : β = m.testBit j := by rw [← hβ, hc, Bool.true_and]
          rw [hβ'] at s2f
          have as := dg_hf_al W2 b2 (L := 5 - j) (by omega)
          have ls := fun z => dg_hf_lv W2 b2 (L := 5 - j) (by omega) z (by rw [nb2]; exact lb)
          obtain ⟨r, u4, F4, HN, K4, S4, E4, l4, al4, lv4, ev4⟩ := xl_node (k := j) (a := if m.testBit j = true then dg_hf (st_nd (bx_S u2)) b (5 - j) false else r1) (b := if m.testBit j = true then r1 else dg_hf (st_nd (bx_S u2)) b (5 - j) true) (by omega) (F := F2) (by omega) (xw_h u2 d (nI 2)) S2 (by
              by_cases z : m.testBit j = true
              · rw [if_pos z]; exact as false
              · rw [if_neg z]; exact s2d) (by
              by_cases z : m.testBit j = true
              · rw [if_pos z]; exact s2d
              · rw [if_neg z]; exact as true) (by
              show _ ≤ dg_lv (st_nd (bx_S u2) _)
              by_cases z : m.testBit j = true
              · rw [if_pos z]; have := ls false; omega
              · rw [if_neg z]; exact s2e) (by
              show _ ≤ dg_lv (st_nd (bx_S u2) _)
              by_cases z : m.testBit j = true
              · rw [if_pos z]; exact s2e
              · rw [if_neg z]; have := ls true; omega)
          have rn3 := xc_s1 hm (by omega) (by omega) S2 a2 b2 d2 f2 g2 hc HN K4
          refine ⟨1 + c1 + 1, xw_f u4 d (nI r), F4, r, by omega, rn_c_t rn02 rn3, ?_⟩
          refine xw_end (sp_c_M m) (u1 := xw_h u2 d (nI 2)) (F1 := F2) (ph := 2) S2 E2 (xw_B_t B02 (xw_B_h u2 d (nI 2))) (xw_C_t C02 (xq_h f2 2).1) (mo_cg (bx_S_h _ _ _) (bx_M_h _ _ _) m2) (xq_h f2 2).2 K4 S4 E4 (by omega) (by omega) ha4 hb4 ?_
          refine ⟨by omega, st_E_al E4 a2, st_E_al E4 b2, al4, lv4, fun h => ?_⟩
          rw [e66, ev4 h, mt_s1 hc, dg_ev_s, dg_ev_s]
          have xa : dg_hf (st_nd (bx_S u4)) a (5 - j) (h.testBit j) = dg_hf (st_nd (bx_S u2)) a (5 - j) (h.testBit j) := dg_hf_ext (st_E_nd E4 a2) _ _
          have xb : dg_hf (st_nd (bx_S u4)) b (5 - j) (h.testBit j) = dg_hf (st_nd (bx_S u2)) b (5 - j) (h.testBit j) := dg_hf_ext (st_E_nd E4 b2) _ _
          rw [xa, xb, st_ev S2 E4 (by omega) (dg_hf_al W2 a2 (by omega) _), st_ev S2 E4 (by omega) (dg_hf_al W2 b2 (by omega) _)]
          show (if h.testBit j = true then dg_ev (st_nd (bx_S u2)) j _ h else dg_ev (st_nd (bx_S u2)) j _ h) = _
          have s2h := s2f h
          cases z : m.testBit j <;> cases y : h.testBit j
          · rw [z] at s2h
            simp only [Bool.false_eq_true, if_false, beq_self_eq_true, Bool.true_and]
            exact s2h
          · simp
          · simp
          · rw [z] at s2h
            simp only [if_true, beq_self_eq_true, Bool.true_and]
            exact s2h
        · -- the bit is free: the other half too
          have hc0 : m.testBit (j + 6) = false := by
            cases z : m.testBit (j + 6)
            · rfl
            · exact absurd z hc
          have hβ' : β = false := by rw [← hβ, hc0, Bool.false_and]
          rw [hβ'] at s2f
          have r2 := xc_s2 hm (by omega) (by omega) S2 a2 b2 d2 f2 hc0
          generalize hu3 : xw_p (xw_l (xw_h u2 d (nI 2)) d (gx_got u2)) (d + 1) (nI (6 - j)) (nI (dg_hf (st_nd (bx_S u2)) a (5 - j) true)) (nI (dg_hf (st_nd (bx_S u2)) b (5 - j) true)) = u3 at r2
          have hq := xq_1 f2 (6 - j) (dg_hf (st_nd (bx_S u2)) a (5 - j) true) (dg_hf (st_nd (bx_S u2)) b (5 - j) true) 2 (gx_got u2)
          rw [hu3] at hq
          obtain ⟨p1, p0, p3, p4, p5, p6, p7, p8'⟩ := hq
          have p2 : mo_g (sp_c m) σ u3 F2 := mo_cg p1 p0 m2
          have p8 : gx_workLow u3 d = nI r1 := p8'.trans g2
          have at2 := dg_hf_al W2 a2 (L := 5 - j) (by omega) true
          have bt2 := dg_hf_al W2 b2 (L := 5 - j) (by omega) true
          have lat := dg_hf_lv W2 a2 (L := 5 - j) (by omega) true (by rw [na2]; exact la)
          have lbt := dg_hf_lv W2 b2 (L := 5 - j) (by omega) true (by rw [nb2]; exact lb)
          obtain ⟨c2, u4, F4, r2', hc2, rn3, S4, E4, l4, d4, B4, C4, g4, s4, m4⟩ := ih (by omega) u3 F2 (d + 1) _ _ (by rw [p1]; exact S2) p2 p3 (by omega) p4 at2 bt2 (by rw [p1]; omega) (by rw [p1]; omega) (by omega)
          rw [p1] at E4
          have f4 : xw_F u4 d (5 - j) a b 2 := by
            have := B4 d (by omega)
            exact ⟨this.1.trans p7.1, this.2.1.trans p7.2.1, this.2.2.1.trans p7.2.2.1, this.2.2.2.1.trans p7.2.2.2⟩
          have w4 : gx_workLow u4 d = nI r1 := (B4 d (by omega)).2.2.2.2.trans p8
          obtain ⟨s4a, s4b, s4c, s4d, s4e, s4f⟩ := s4
          rw [e65] at s4f
          have a4 := st_E_al E4 a2
          have b4 := st_E_al E4 b2
          obtain ⟨r, u6, F6, HN, K6, S6, E6, l6, al6, lv6, ev6⟩ := xl_node (k := j) (a := r1) (b := r2') (by omega) (F := F4) (by omega) (xw_h u4 d (nI 3)) S4 (st_E_al E4 s2d) s4d (by
              show _ ≤ dg_lv (st_nd (bx_S u4) r1)
              rw [st_E_nd E4 s2d]; exact s2e) s4e
          have rn5 := xc_s3 hm (by omega) (by omega) ha4 hb4 d4 f4 g4 w4 hc0 HN K6
          refine ⟨1 + c1 + (1 + c2) + 1, xw_f u6 d (nI r), F6, r, by omega, rn_c_t (rn_c_t rn02 (rn_c_t r2 rn3)) rn5, ?_⟩
          have E04 := st_E_t E2 E4
          refine xw_end (sp_c_M m) (u1 := xw_h u4 d (nI 3)) (F1 := F4) (ph := 3) S4 E04 (xw_B_t (xw_B_t B02 (xw_B_t p6 (xw_B_le B4 (by omega)))) (xw_B_h u4 d (nI 3))) (xw_C_t (xw_C_t C02 (xw_C_t p5 C4)) (xq_h f4 3).1) (mo_cg (bx_S_h _ _ _) (bx_M_h _ _ _) m4) (xq_h f4 3).2 K6 S6 E6 (by omega) (by omega) ha4 hb4 ?_
          refine ⟨by omega, st_E_al E6 a4, st_E_al E6 b4, al6, lv6, fun h => ?_⟩
          rw [e66, ev6 h, mt_s0 hc0, dg_ev_s, dg_ev_s]
          have E26 := st_E_t E4 E6
          have xa : dg_hf (st_nd (bx_S u6)) a (5 - j) (h.testBit j) = dg_hf (st_nd (bx_S u2)) a (5 - j) (h.testBit j) := dg_hf_ext (st_E_nd E26 a2) _ _
          have xb : dg_hf (st_nd (bx_S u6)) b (5 - j) (h.testBit j) = dg_hf (st_nd (bx_S u2)) b (5 - j) (h.testBit j) := dg_hf_ext (st_E_nd E26 b2) _ _
          rw [xa, xb, st_ev S2 E26 (by omega) (dg_hf_al W2 a2 (by omega) _), st_ev S2 E26 (by omega) (dg_hf_al W2 b2 (by omega) _)]
          show (if h.testBit j = true then dg_ev (st_nd (bx_S u4)) j _ h else dg_ev (st_nd (bx_S u4)) j _ h) = _
          rw [st_ev S2 E4 (by omega) s2d, s2f h, s4f h, st_ev S2 E4 (by omega) at2, st_ev S2 E4 (by omega) bt2]
          cases y : h.testBit j
          · rw [if_neg (by decide)]
          · rw [if_pos rfl]
end
section
/-! choose as a work on diagrams -/
def dg_R (b : SB) (F : List Nat) (r : Nat) (f : Nat → Nat) : Prop := st_al F r ∧ ∀ h, h < 64 → dg_ev (st_nd b) 6 r h = f h
theorem dg_R_E {b b' : SB} {F F' : List Nat} (S : st_Ok b F) (E : st_E b F b' F') {r : Nat} {f : Nat → Nat} (h : dg_R b F r f) : dg_R b' F' r f := ⟨st_E_al E h.1, fun x hx => (st_ev S E (by omega) h.1 x).trans (h.2 x hx)⟩
/-- a work: n new nodes at most, stamps from σ to σ' -/
def xd_W (n : Nat) (u : SX) (F : List Nat) (u' : SX) (F' : List Nat) (σ' : Nat) : Prop := st_Ok (bx_S u') F' ∧ st_E (bx_S u) F (bx_S u') F' ∧ F.length ≤ F'.length + n ∧ bx_C u' = bx_C u ∧ bx_D u' = bx_D u ∧ ms_k u' σ'
theorem xd_W_t {n n' : Nat} {u u' u2 : SX} {F F' F2 : List Nat} {σ σ' : Nat} (h : xd_W n u F u' F' σ) (h2 : xd_W n' u' F' u2 F2 σ') : xd_W (n + n') u F u2 F2 σ' := ⟨h2.1, st_E_t h.2.1 h2.2.1, by have := h.2.2.1; have := h2.2.2.1; omega, h2.2.2.2.1.trans h.2.2.2.1, h2.2.2.2.2.1.trans h.2.2.2.2.1, h2.2.2.2.2.2⟩
theorem xd_W_r {u : SX} {F : List Nat} {σ : Nat} (S : st_Ok (bx_S u) F) (h : ms_k u σ) : xd_W 0 u F u F σ := ⟨S, st_E_r _ _, Nat.le_refl _, rfl, rfl, h⟩
theorem xd_W_le {n n' : Nat} {u u' : SX} {F F' : List Nat} {σ : Nat} (h : xd_W n u F u' F' σ) (hn : n ≤ n') : xd_W n' u F u' F' σ := ⟨h.1, h.2.1, by have := h.2.2.1; omega, h.2.2.2⟩
theorem xd_K {n : Nat} {u u' : SX} {F F' : List Nat} {σ : Nat} (hK : xs_K u u') (S : st_Ok (bx_S u') F') (E : st_E (bx_S u) F (bx_S u') F') (hl : F.length ≤ F'.length + n) (hs : ms_k u σ) : xd_W n u F u' F' σ := ⟨S, E, hl, hK.1, hK.2.1, (xk_s hK.2.2.1).trans hs.1, fun i hi => by rw [xk_ms hK.2.2.1]; exact hs.2 i hi⟩
/-- a leaf as a work -/
theorem xd_leaf {v σ : Nat} (hv : v < 384) {F : List Nat} (hF : 0 < F.length) (u : SX) (S : st_Ok (bx_S u) F) (hs : ms_k u σ) : ∃ (r : Nat) (u' : SX) (F' : List Nat), (∀ post : Int32 → SX → Prop, post (nI r) u' → wpX_leaf post u (nI v)) ∧ xd_W 1 u F u' F' σ ∧ dg_R (bx_S u') F' r (fun _ => v) := by
  obtain ⟨r, u', F', h1, h2, h3, h4, h5, h6, h7, h8⟩ := xl_leaf hv hF u S
  exact ⟨r, u', F', h1, xd_K h2 h3 h4 h5 hs, h6, fun h _ => (dg_ev_leaf h7 6 h (by omega)).trans h8⟩
theorem mo_0 {sp : SB → List Nat → Nat → Nat → Nat → Nat → Prop} {u : SX} {F : List Nat} {σ : Nat} (hσ : σ + 1 < 2 ^ 31) (hs : gx_stamp u = nI (σ + 1)) (hm : ∀ i, i < 256 → ∃ s, s ≤ σ ∧ gx_memoStamp u i = nI s) : mo_g sp (σ + 1) u F := by
  refine ⟨⟨hs, fun i hi => ?_⟩, fun i hi e => ?_⟩
  · obtain ⟨s, h1, h2⟩ := hm i hi
    exact ⟨s, by omega, h2⟩
  · obtain ⟨s, h1, h2⟩ := hm i hi
    rw [h2, hs, nI_eq (by omega) hσ] at e
    omega
theorem gx_memoStamp_p (u : SX) (d : Nat) (x y z : Int32) : gx_memoStamp (xw_p u d x y z) = gx_memoStamp u := rfl
theorem bx_S_ds (u : SX) (d s : Int32) : bx_S (sx_ds u d s) = bx_S u := rfl
theorem bx_C_ds (u : SX) (d s : Int32) : bx_C (sx_ds u d s) = bx_C u := rfl
theorem bx_D_ds (u : SX) (d s : Int32) : bx_D (sx_ds u d s) = bx_D u := rfl
theorem gx_stamp_ds (u : SX) (d s : Int32) : gx_stamp (sx_ds u d s) = s := rfl
theorem gx_memoStamp_ds (u : SX) (d s : Int32) : gx_memoStamp (sx_ds u d s) = gx_memoStamp u := rfl
/-- the first frame of a work -/
theorem xq_s (u : SX) (s : Int32) (L a b : Nat) : bx_S (xw_p (sx_ds u 0 s) 0 (nI L) (nI a) (nI b)) = bx_S u ∧ bx_C (xw_p (sx_ds u 0 s) 0 (nI L) (nI a) (nI b)) = bx_C u ∧ bx_D (xw_p (sx_ds u 0 s) 0 (nI L) (nI a) (nI b)) = bx_D u ∧ gx_stamp (xw_p (sx_ds u 0 s) 0 (nI L) (nI a) (nI b)) = s ∧ gx_memoStamp (xw_p (sx_ds u 0 s) 0 (nI L) (nI a) (nI b)) = gx_memoStamp u ∧ gx_depth (xw_p (sx_ds u 0 s) 0 (nI L) (nI a) (nI b)) = nI (0 + 1) ∧ xw_F (xw_p (sx_ds u 0 s) 0 (nI L) (nI a) (nI b)) 0 L a b 0 := by
  refine ⟨by rw [bx_S_p, bx_S_ds], by rw [bx_C_p, bx_C_ds], by rw [bx_D_p, bx_D_ds], by rw [gx_stamp_p, gx_stamp_ds], by rw [gx_memoStamp_p, gx_memoStamp_ds], gx_depth_p _ _ _ _ _, ?_, ?_, ?_, ?_⟩
  · rw [gx_workLevel_p, pk_us]
  · rw [gx_workOne_p, pk_us]
  · rw [gx_workTwo_p, pk_us]
  · rw [gx_workPhase_p, pk_us]; rfl
theorem xp_pushT {post : SX → Prop} {p0 p1 p2 : Int32} (f_active : Int32) (f_outPlace : Int32) (f_outHeader : Int32) (f_freeNode : Int32) (f_freeCount : Int32) (f_keptDiagram : Int32) (f_depth : Int32) (f_got : Int32) (f_stamp : Int32) (a_links : Nat → Int32) (a_ruleCount : Nat → Int32) (a_matches : Nat → Int32) (a_actions : Nat → Int32) (a_changes : Nat → Int32) (a_states : Nat → Int32) (a_places : Nat → Int32) (a_headers : Nat → Int32) (a_tables : Nat → Int32) (a_treated : Nat → Int32) (a_nodes : Nat → Int32) (a_following : Nat → Int32) (a_marked : Nat → Int32) (a_bucket : Nat → Int32) (a_now : Nat → Int32) (a_next : Nat → Int32) (a_layer : Nat → Int32) (a_workLevel : Nat → Int32) (a_workOne : Nat → Int32) (a_workTwo : Nat → Int32) (a_workPhase : Nat → Int32) (a_workLow : Nat → Int32) (a_memoStamp : Nat → Int32) (a_memoOne : Nat → Int32) (a_memoTwo : Nat → Int32) (a_memoLevel : Nat → Int32) (a_memoGot : Nat → Int32) (d : Nat) (hd : d < 16) (e : f_depth = nI d) (hp : post (f_active, f_outPlace, f_outHeader, f_freeNode, f_freeCount, f_keptDiagram, nI (d + 1), f_got, f_stamp, a_links, a_ruleCount, a_matches, a_actions, a_changes, a_states, a_places, a_headers, a_tables, a_treated, a_nodes, a_following, a_marked, a_bucket, a_now, a_next, a_layer, upd a_workLevel d p0, upd a_workOne d p1, upd a_workTwo d p2, upd a_workPhase d 0, a_workLow, a_memoStamp, a_memoOne, a_memoTwo, a_memoLevel, a_memoGot)) : wpX_push post (f_active, f_outPlace, f_outHeader, f_freeNode, f_freeCount, f_keptDiagram, f_depth, f_got, f_stamp, a_links, a_ruleCount, a_matches, a_actions, a_changes, a_states, a_places, a_headers, a_tables, a_treated, a_nodes, a_following, a_marked, a_bucket, a_now, a_next, a_layer, a_workLevel, a_workOne, a_workTwo, a_workPhase, a_workLow, a_memoStamp, a_memoOne, a_memoTwo, a_memoLevel, a_memoGot) p0 p1 p2 := by
  subst e
  have hv : vp_in (nI d) 16 := vp_in_nI hd (by decide)
  have hc : (nI d).toNatClampNeg = d := nI_clamp (by omega)
  refine And.intro hv ?_
  rw [hc]
  exact nm_e (And.intro hv (nm_e (And.intro hv (nm_e (And.intro hv (nm_e (nm_r (nI_1 d) hp)))))))
theorem xp_choose {post : Int32 → SX → Prop} {m a b σ n : Nat} : ∀ u : SX, gx_stamp u = nI σ → lx_c post m n 0 (xw_p (sx_ds u 0 (nI (σ + 1))) 0 (nI 0) (nI a) (nI b)) → wpX_choose post u (nI m) (nI a) (nI b) := by
  rintro ⟨f_active, f_outPlace, f_outHeader, f_freeNode, f_freeCount, f_keptDiagram, f_depth, f_got, f_stamp, a_links, a_ruleCount, a_matches, a_actions, a_changes, a_states, a_places, a_headers, a_tables, a_treated, a_nodes, a_following, a_marked, a_bucket, a_now, a_next, a_layer, a_workLevel, a_workOne, a_workTwo, a_workPhase, a_workLow, a_memoStamp, a_memoOne, a_memoTwo, a_memoLevel, a_memoGot⟩ es h2
  refine nm_r (e' := nI (σ + 1)) ?_ (xp_pushT f_active f_outPlace f_outHeader f_freeNode f_freeCount f_keptDiagram 0 f_got (nI (σ + 1)) a_links a_ruleCount a_matches a_actions a_changes a_states a_places a_headers a_tables a_treated a_nodes a_following a_marked a_bucket a_now a_next a_layer a_workLevel a_workOne a_workTwo a_workPhase a_workLow a_memoStamp a_memoOne a_memoTwo a_memoLevel a_memoGot 0 (by decide) rfl (Exists.intro n h2))
  rw [show f_stamp = nI σ from es, nI_1]
theorem lx_c_end {post : Int32 → SX → Prop} {m c r : Nat} (hc : c < 600) : ∀ u : SX, gx_depth u = nI 0 → gx_got u = nI r → post (nI r) u → lx_c post m 1 c u := by
  rintro ⟨f_active, f_outPlace, f_outHeader, f_freeNode, f_freeCount, f_keptDiagram, f_depth, f_got, f_stamp, a_links, a_ruleCount, a_matches, a_actions, a_changes, a_states, a_places, a_headers, a_tables, a_treated, a_nodes, a_following, a_marked, a_bucket, a_now, a_next, a_layer, a_workLevel, a_workOne, a_workTwo, a_workPhase, a_workLow, a_memoStamp, a_memoOne, a_memoTwo, a_memoLevel, a_memoGot⟩ d' g' hp
  have h3 : post (gx_got (f_active, f_outPlace, f_outHeader, f_freeNode, f_freeCount, f_keptDiagram, f_depth, f_got, f_stamp, a_links, a_ruleCount, a_matches, a_actions, a_changes, a_states, a_places, a_headers, a_tables, a_treated, a_nodes, a_following, a_marked, a_bucket, a_now, a_next, a_layer, a_workLevel, a_workOne, a_workTwo, a_workPhase, a_workLow, a_memoStamp, a_memoOne, a_memoTwo, a_memoLevel, a_memoGot)) (f_active, f_outPlace, f_outHeader, f_freeNode, f_freeCount, f_keptDiagram, f_depth, f_got, f_stamp, a_links, a_ruleCount, a_matches, a_actions, a_changes, a_states, a_places, a_headers, a_tables, a_treated, a_nodes, a_following, a_marked, a_bucket, a_now, a_next, a_layer, a_workLevel, a_workOne, a_workTwo, a_workPhase, a_workLow, a_memoStamp, a_memoOne, a_memoTwo, a_memoLevel, a_memoGot) := by rw [g']; exact hp
  exact br_f (nI_ge (b := 600) (by omega) (by decide)) (br_t (by rw [d']; decide) h3)
theorem xd_choose {m a b σ : Nat} {fa fb : Nat → Nat} (hm : m < 4096) {F : List Nat} (hF : 63 ≤ F.length) (hσ : σ + 1 < 2 ^ 31) (u : SX) (S : st_Ok (bx_S u) F) (hs : ms_k u σ) (ha : dg_R (bx_S u) F a fa) (hb : dg_R (bx_S u) F b fb) : ∃ (r : Nat) (u' : SX) (F' : List Nat), (∀ post : Int32 → SX → Prop, post (nI r) u' → wpX_choose post u (nI m) (nI a) (nI b)) ∧ xd_W 63 u F u' F' (σ + 1) ∧ dg_R (bx_S u') F' r (fun h => if mt_b m h 6 = true then fa h else fb h) := by
  obtain ⟨q1, q2, q3, q4, q5, q6, q7⟩ := xq_s u (nI (σ + 1)) 0 a b
  have hpc := fun (post : Int32 → SX → Prop) (n : Nat) => xp_choose (post := post) (m := m) (a := a) (b := b) (n := n) u hs.1
  generalize xw_p (sx_ds u 0 (nI (σ + 1))) 0 (nI 0) (nI a) (nI b) = u1 at q1 q2 q3 q4 q5 q6 q7 hpc
  have e2 : mo_g (sp_c m) (σ + 1) u1 F := mo_0 hσ q4 (by rw [q5]; exact hs.2)
  obtain ⟨c, u', F', r, hc, rn, S', E', l', d', B', C', g', s', m'⟩ := xc_run hm 6 (by omega) u1 F 0 a b (by rw [q1]; exact S) e2 q6 (by omega) q7 ha.1 hb.1 (by omega) (by omega) (by show 64 ≤ _; omega)
  rw [q1] at E'
  refine ⟨r, u', F', ?_, ⟨S', E', by have : F.length + 1 ≤ F'.length + 64 := l'; omega, C'.1.trans q2, C'.2.1.trans q3, m'.1⟩, s'.2.2.2.1, ?_⟩
  · intro post hp
    have hc' : c + 3 ≤ 256 := hc
    have h1 : lx_c post m 1 (0 + c) u' := lx_c_end (by omega) u' d' g' hp
    exact hpc post _ (rn post 1 0 (by omega) h1)
  · intro h hh
    have := s'.2.2.2.2.2 h
    rw [show 6 - (6 - 6) = 6 from rfl, st_ev S E' (by omega) ha.1, st_ev S E' (by omega) hb.1] at this
    rw [this, ha.2 h hh, hb.2 h hh]
end
section
/-! afterChange: steps -/
def sp_a (c : Nat) (b : SB) (F : List Nat) (_ a _ r : Nat) : Prop := st_al F a ∧ st_al F r ∧ dg_lv (st_nd b a) ≤ dg_lv (st_nd b r) ∧ ∀ h, dg_ev (st_nd b) 6 r h = dg_ev (st_nd b) 6 a (ch_v c h)
theorem sp_a_M (c : Nat) : mo_M (sp_a c) := by
  intro b F b' F' L a z r S E ⟨h1, h2, h3, h4⟩
  refine ⟨st_E_al E h1, st_E_al E h2, ?_, ?_⟩
  · rw [st_E_nd E h1, st_E_nd E h2]; exact h3
  · intro h
    rw [st_ev S E (by omega) h1, st_ev S E (by omega) h2]
    exact h4 h
theorem dg_ev6 {nd : Nat → Nat} {n j : Nat} (hj : j ≤ 6) (hl : 6 - j ≤ dg_lv (nd n)) (h : Nat) : dg_ev nd 6 n h = dg_ev nd j n h := by
  have := dg_ev_skip (nd := nd) (k := j) hl h (6 - j) (by omega)
  rw [show j + (6 - j) = 6 by omega] at this
  exact this
theorem dg_ev6_n {nd : Nat → Nat} {al : Nat → Prop} (W : dg_Wd nd al) {n j : Nat} (hn : al n) (hj : j < 6) (hl : dg_lv (nd n) = 5 - j) (h : Nat) : dg_ev nd 6 n h = dg_ev nd 6 (dg_hf nd n (5 - j) (h.testBit j)) h := by
  rw [dg_ev6 (j := j + 1) (by omega) (by omega), dg_ev6 (j := j) (n := dg_hf nd n (5 - j) (h.testBit j)) (by omega) (by have := dg_hf_lv W hn (L := 5 - j) (by omega) (h.testBit j) (by omega); omega)]
  rfl
theorem xa_open {post : SX → Prop} {c d n ph : Nat} {F : List Nat} (hd : d < 16) (hph : ph ≤ 2) (hn : st_al F n) : ∀ u : SX, st_Ok (bx_S u) F → gx_depth u = nI (d + 1) → xw_F u d 7 n 0 ph → (ph = 0 → dg_lv (st_nd (bx_S u) n) = 6 → post (sx_dg u (nI d) (nI n))) → ((ph ≠ 0 ∨ dg_lv (st_nd (bx_S u) n) ≠ 6) → wX_changeStep_57 post (nI c) (nI d) (nI n) (nI (dg_lv (st_nd (bx_S u) n))) (nI ph) (gx_active u) (gx_outPlace u) (gx_outHeader u) (gx_freeNode u) (gx_freeCount u) (gx_keptDiagram u) (gx_depth u) (gx_got u) (gx_stamp u) (gx_links u) (gx_ruleCount u) (gx_matches u) (gx_actions u) (gx_changes u) (gx_states u) (gx_places u) (gx_headers u) (gx_tables u) (gx_treated u) (gx_nodes u) (gx_following u) (gx_marked u) (gx_bucket u) (gx_now u) (gx_next u) (gx_layer u) (gx_workLevel u) (gx_workOne u) (gx_workTwo u) (gx_workPhase u) (gx_workLow u) (gx_memoStamp u) (gx_memoOne u) (gx_memoTwo u) (gx_memoLevel u) (gx_memoGot u)) → wpX_changeStep post u (nI c) := by
  rintro ⟨f_active, f_outPlace, f_outHeader, f_freeNode, f_freeCount, f_keptDiagram, f_depth, f_got, f_stamp, a_links, a_ruleCount, a_matches, a_actions, a_changes, a_states, a_places, a_headers, a_tables, a_treated, a_nodes, a_following, a_marked, a_bucket, a_now, a_next, a_layer, a_workLevel, a_workOne, a_workTwo, a_workPhase, a_workLow, a_memoStamp, a_memoOne, a_memoTwo, a_memoLevel, a_memoGot⟩ S e1 ⟨e2, e3, e4, e5⟩ HA HB
  have hv : vp_in (nI d) 16 := vp_in_nI hd (by decide)
  have hc : (nI d).toNatClampNeg = d := nI_clamp (by omega)
  have ed : f_depth - 1 = nI d := by rw [show f_depth = nI (d + 1) from e1, nI_pred]
  have h6 := dg_le6 (st_W S) hn
  refine nm_r ed (And.intro hv (nm_r (e' := nI n) (by rw [hc]; exact e3) (xl_lv hn (f_active, f_outPlace, f_outHeader, f_freeNode, f_freeCount, f_keptDiagram, f_depth, f_got, f_stamp, a_links, a_ruleCount, a_matches, a_actions, a_changes, a_states, a_places, a_headers, a_tables, a_treated, a_nodes, a_following, a_marked, a_bucket, a_now, a_next, a_layer, a_workLevel, a_workOne, a_workTwo, a_workPhase, a_workLow, a_memoStamp, a_memoOne, a_memoTwo, a_memoLevel, a_memoGot) S (And.intro hv (nm_r (e' := nI ph) (by rw [hc]; exact e5) ?_)))))
  exact pk_eq ph 0 (fun z => pk_eq (dg_lv (st_nd (bx_S (f_active, f_outPlace, f_outHeader, f_freeNode, f_freeCount, f_keptDiagram, f_depth, f_got, f_stamp, a_links, a_ruleCount, a_matches, a_actions, a_changes, a_states, a_places, a_headers, a_tables, a_treated, a_nodes, a_following, a_marked, a_bucket, a_now, a_next, a_layer, a_workLevel, a_workOne, a_workTwo, a_workPhase, a_workLow, a_memoStamp, a_memoOne, a_memoTwo, a_memoLevel, a_memoGot)) n)) 6 (fun y => nm_r ed (HA z y)) (fun y => HB (Or.inr y))) (fun z => HB (Or.inl z))
theorem xa_57 {post : SX → Prop} {c d n ph : Nat} {x4 : Int32} (hph : ph ≤ 2) : ∀ u : SX, gx_depth u = nI (d + 1) → (ph = 0 → xw_H u (nI 7) (nI n) (nI 0) → post (sx_dg u (nI d) (gx_memoGot u (mm_f (nI 7) (nI n) (nI 0))))) → ((ph ≠ 0 ∨ ¬ xw_H u (nI 7) (nI n) (nI 0)) → wX_changeStep_84 post (nI c) (nI d) (nI n) x4 (nI ph) (gx_active u) (gx_outPlace u) (gx_outHeader u) (gx_freeNode u) (gx_freeCount u) (gx_keptDiagram u) (gx_depth u) (gx_got u) (gx_stamp u) (gx_links u) (gx_ruleCount u) (gx_matches u) (gx_actions u) (gx_changes u) (gx_states u) (gx_places u) (gx_headers u) (gx_tables u) (gx_treated u) (gx_nodes u) (gx_following u) (gx_marked u) (gx_bucket u) (gx_now u) (gx_next u) (gx_layer u) (gx_workLevel u) (gx_workOne u) (gx_workTwo u) (gx_workPhase u) (gx_workLow u) (gx_memoStamp u) (gx_memoOne u) (gx_memoTwo u) (gx_memoLevel u) (gx_memoGot u)) → wX_changeStep_57 post (nI c) (nI d) (nI n) x4 (nI ph) (gx_active u) (gx_outPlace u) (gx_outHeader u) (gx_freeNode u) (gx_freeCount u) (gx_keptDiagram u) (gx_depth u) (gx_got u) (gx_stamp u) (gx_links u) (gx_ruleCount u) (gx_matches u) (gx_actions u) (gx_changes u) (gx_states u) (gx_places u) (gx_headers u) (gx_tables u) (gx_treated u) (gx_nodes u) (gx_following u) (gx_marked u) (gx_bucket u) (gx_now u) (gx_next u) (gx_layer u) (gx_workLevel u) (gx_workOne u) (gx_workTwo u) (gx_workPhase u) (gx_workLow u) (gx_memoStamp u) (gx_memoOne u) (gx_memoTwo u) (gx_memoLevel u) (gx_memoGot u) := by
  rintro ⟨f_active, f_outPlace, f_outHeader, f_freeNode, f_freeCount, f_keptDiagram, f_depth, f_got, f_stamp, a_links, a_ruleCount, a_matches, a_actions, a_changes, a_states, a_places, a_headers, a_tables, a_treated, a_nodes, a_following, a_marked, a_bucket, a_now, a_next, a_layer, a_workLevel, a_workOne, a_workTwo, a_workPhase, a_workLow, a_memoStamp, a_memoOne, a_memoTwo, a_memoLevel, a_memoGot⟩ e1 HA HB
  refine pk_eq ph 0 (fun z => xp_rec (l := nI 7) (b := nI 0) (f_active, f_outPlace, f_outHeader, f_freeNode, f_freeCount, f_keptDiagram, f_depth, f_got, f_stamp, a_links, a_ruleCount, a_matches, a_actions, a_changes, a_states, a_places, a_headers, a_tables, a_treated, a_nodes, a_following, a_marked, a_bucket, a_now, a_next, a_layer, a_workLevel, a_workOne, a_workTwo, a_workPhase, a_workLow, a_memoStamp, a_memoOne, a_memoTwo, a_memoLevel, a_memoGot) (fun y => br_f (by decide) (nm_r (e' := nI d) ?_ (HA z y))) (fun y => br_t rfl (HB (Or.inr y)))) (fun z => HB (Or.inl z))
  show f_depth - 1 = nI d
  rw [show f_depth = nI (d + 1) from e1, nI_pred]
theorem xa_84 {post : SX → Prop} {c d j n ph : Nat} (hc4 : c < 4096) (hd : d < 16) (hj : j < 6) : ∀ u : SX, gx_workPhase u d = nI ph → (c.testBit (j + 6) = true → wX_changeStep_136 post (nI d) (nI n) (nI (5 - j)) (nI ph) 1 (nI (c.testBit j).toNat) (gx_active (xw_h u d (nI (ph + 1)))) (gx_outPlace (xw_h u d (nI (ph + 1)))) (gx_outHeader (xw_h u d (nI (ph + 1)))) (gx_freeNode (xw_h u d (nI (ph + 1)))) (gx_freeCount (xw_h u d (nI (ph + 1)))) (gx_keptDiagram (xw_h u d (nI (ph + 1)))) (gx_depth (xw_h u d (nI (ph + 1)))) (gx_got (xw_h u d (nI (ph + 1)))) (gx_stamp (xw_h u d (nI (ph + 1)))) (gx_links (xw_h u d (nI (ph + 1)))) (gx_ruleCount (xw_h u d (nI (ph + 1)))) (gx_matches (xw_h u d (nI (ph + 1)))) (gx_actions (xw_h u d (nI (ph + 1)))) (gx_changes (xw_h u d (nI (ph + 1)))) (gx_states (xw_h u d (nI (ph + 1)))) (gx_places (xw_h u d (nI (ph + 1)))) (gx_headers (xw_h u d (nI (ph + 1)))) (gx_tables (xw_h u d (nI (ph + 1)))) (gx_treated (xw_h u d (nI (ph + 1)))) (gx_nodes (xw_h u d (nI (ph + 1)))) (gx_following (xw_h u d (nI (ph + 1)))) (gx_marked (xw_h u d (nI (ph + 1)))) (gx_bucket (xw_h u d (nI (ph + 1)))) (gx_now (xw_h u d (nI (ph + 1)))) (gx_next (xw_h u d (nI (ph + 1)))) (gx_layer (xw_h u d (nI (ph + 1)))) (gx_workLevel (xw_h u d (nI (ph + 1)))) (gx_workOne (xw_h u d (nI (ph + 1)))) (gx_workTwo (xw_h u d (nI (ph + 1)))) (gx_workPhase (xw_h u d (nI (ph + 1)))) (gx_workLow (xw_h u d (nI (ph + 1)))) (gx_memoStamp (xw_h u d (nI (ph + 1)))) (gx_memoOne (xw_h u d (nI (ph + 1)))) (gx_memoTwo (xw_h u d (nI (ph + 1)))) (gx_memoLevel (xw_h u d (nI (ph + 1)))) (gx_memoGot (xw_h u d (nI (ph + 1))))) → (c.testBit (j + 6) = false → wX_changeStep_136 post (nI d) (nI n) (nI (5 - j)) (nI ph) 0 (nI ph) (gx_active (xw_h u d (nI (ph + 1)))) (gx_outPlace (xw_h u d (nI (ph + 1)))) (gx_outHeader (xw_h u d (nI (ph + 1)))) (gx_freeNode (xw_h u d (nI (ph + 1)))) (gx_freeCount (xw_h u d (nI (ph + 1)))) (gx_keptDiagram (xw_h u d (nI (ph + 1)))) (gx_depth (xw_h u d (nI (ph + 1)))) (gx_got (xw_h u d (nI (ph + 1)))) (gx_stamp (xw_h u d (nI (ph + 1)))) (gx_links (xw_h u d (nI (ph + 1)))) (gx_ruleCount (xw_h u d (nI (ph + 1)))) (gx_matches (xw_h u d (nI (ph + 1)))) (gx_actions (xw_h u d (nI (ph + 1)))) (gx_changes (xw_h u d (nI (ph + 1)))) (gx_states (xw_h u d (nI (ph + 1)))) (gx_places (xw_h u d (nI (ph + 1)))) (gx_headers (xw_h u d (nI (ph + 1)))) (gx_tables (xw_h u d (nI (ph + 1)))) (gx_treated (xw_h u d (nI (ph + 1)))) (gx_nodes (xw_h u d (nI (ph + 1)))) (gx_following (xw_h u d (nI (ph + 1)))) (gx_marked (xw_h u d (nI (ph + 1)))) (gx_bucket (xw_h u d (nI (ph + 1)))) (gx_now (xw_h u d (nI (ph + 1)))) (gx_next (xw_h u d (nI (ph + 1)))) (gx_layer (xw_h u d (nI (ph + 1)))) (gx_workLevel (xw_h u d (nI (ph + 1)))) (gx_workOne (xw_h u d (nI (ph + 1)))) (gx_workTwo (xw_h u d (nI (ph + 1)))) (gx_workPhase (xw_h u d (nI (ph + 1)))) (gx_workLow (xw_h u d (nI (ph + 1)))) (gx_memoStamp (xw_h u d (nI (ph + 1)))) (gx_memoOne (xw_h u d (nI (ph + 1)))) (gx_memoTwo (xw_h u d (nI (ph + 1)))) (gx_memoLevel (xw_h u d (nI (ph + 1)))) (gx_memoGot (xw_h u d (nI (ph + 1))))) → wX_changeStep_84 post (nI c) (nI d) (nI n) (nI (5 - j)) (nI ph) (gx_active u) (gx_outPlace u) (gx_outHeader u) (gx_freeNode u) (gx_freeCount u) (gx_keptDiagram u) (gx_depth u) (gx_got u) (gx_stamp u) (gx_links u) (gx_ruleCount u) (gx_matches u) (gx_actions u) (gx_changes u) (gx_states u) (gx_places u) (gx_headers u) (gx_tables u) (gx_treated u) (gx_nodes u) (gx_following u) (gx_marked u) (gx_bucket u) (gx_now u) (gx_next u) (gx_layer u) (gx_workLevel u) (gx_workOne u) (gx_workTwo u) (gx_workPhase u) (gx_workLow u) (gx_memoStamp u) (gx_memoOne u) (gx_memoTwo u) (gx_memoLevel u) (gx_memoGot u) := by
  rintro ⟨f_active, f_outPlace, f_outHeader, f_freeNode, f_freeCount, f_keptDiagram, f_depth, f_got, f_stamp, a_links, a_ruleCount, a_matches, a_actions, a_changes, a_states, a_places, a_headers, a_tables, a_treated, a_nodes, a_following, a_marked, a_bucket, a_now, a_next, a_layer, a_workLevel, a_workOne, a_workTwo, a_workPhase, a_workLow, a_memoStamp, a_memoOne, a_memoTwo, a_memoLevel, a_memoGot⟩ e HA HB
  show wX_changeStep_84 post (nI c) (nI d) (nI n) (nI (5 - j)) (nI ph) f_active f_outPlace f_outHeader f_freeNode f_freeCount f_keptDiagram f_depth f_got f_stamp a_links a_ruleCount a_matches a_actions a_changes a_states a_places a_headers a_tables a_treated a_nodes a_following a_marked a_bucket a_now a_next a_layer a_workLevel a_workOne a_workTwo a_workPhase a_workLow a_memoStamp a_memoOne a_memoTwo a_memoLevel a_memoGot
  have hv : vp_in (nI d) 16 := vp_in_nI hd (by decide)
  have hc : (nI d).toNatClampNeg = d := nI_clamp (by omega)
  have e5 : (5 : Int32) - nI (5 - j) = nI j := by rw [nb_5 (by omega)]; exact congrArg nI (by omega)
  have e6 : (6 : Int32) + nI j = nI (j + 6) := by
    show nI 6 + nI j = _
    rw [nI_add, Nat.add_comm]
  refine And.intro hv (And.intro hv (nm_r (e' := upd a_workPhase d (nI (ph + 1))) ?_ (nm_r e5 ?_)))
  · rw [hc]
    show upd a_workPhase d (a_workPhase d + 1) = _
    rw [show a_workPhase d = nI ph from e, nI_1]
  · rw [e6]
    have hb1 := nb_bit1 (x := c) (k := j + 6) (by omega) (by omega)
    have hb2 := nb_bitv (x := c) (k := j) (by omega) (by omega)
    refine br_c (fun z => br_f (by decide) ?_) (fun z => br_t rfl ?_)
    · rw [hb2]
      exact HA (hb1.mp z)
    · refine HB ?_
      cases hb : c.testBit (j + 6)
      · rfl
      · exact absurd (hb1.mpr hb) z
theorem xa_push {post : SX → Prop} {d j n ph : Nat} {β : Bool} {F : List Nat} {x8 : Int32} (hd : d + 1 < 16) (hj : j < 6) (hph : ph < 2) (hn : st_al F n) (h8 : x8 = nI β.toNat) : ∀ u : SX, st_Ok (bx_S u) F → gx_depth u = nI (d + 1) → post (xw_p (xw_l u d (gx_got u)) (d + 1) (nI 7) (nI (dg_hf (st_nd (bx_S u)) n (5 - j) β)) (nI 0)) → wX_changeStep_161 post (nI d) (nI n) (nI (5 - j)) (nI ph) x8 (gx_active u) (gx_outPlace u) (gx_outHeader u) (gx_freeNode u) (gx_freeCount u) (gx_keptDiagram u) (gx_depth u) (gx_got u) (gx_stamp u) (gx_links u) (gx_ruleCount u) (gx_matches u) (gx_actions u) (gx_changes u) (gx_states u) (gx_places u) (gx_headers u) (gx_tables u) (gx_treated u) (gx_nodes u) (gx_following u) (gx_marked u) (gx_bucket u) (gx_now u) (gx_next u) (gx_layer u) (gx_workLevel u) (gx_workOne u) (gx_workTwo u) (gx_workPhase u) (gx_workLow u) (gx_memoStamp u) (gx_memoOne u) (gx_memoTwo u) (gx_memoLevel u) (gx_memoGot u) := by
  intro u S e hp
  have h := xl_hf (post := fun r => wpX_push post (xw_l u d (gx_got u)) (nI 7) r (nI 0)) hn (show 5 - j < 7 by omega) h8 (xw_l u d (gx_got u)) S (xp_push hd (xw_l u d (gx_got u)) e hp)
  obtain ⟨f_active, f_outPlace, f_outHeader, f_freeNode, f_freeCount, f_keptDiagram, f_depth, f_got, f_stamp, a_links, a_ruleCount, a_matches, a_actions, a_changes, a_states, a_places, a_headers, a_tables, a_treated, a_nodes, a_following, a_marked, a_bucket, a_now, a_next, a_layer, a_workLevel, a_workOne, a_workTwo, a_workPhase, a_workLow, a_memoStamp, a_memoOne, a_memoTwo, a_memoLevel, a_memoGot⟩ := u
  have hc : (nI d).toNatClampNeg = d := nI_clamp (by omega)
  refine br_f (nb_ne (b := 2) (by omega) (by decide) (by omega)) (And.intro (vp_in_nI (by omega) (by decide)) ?_)
  rw [hc]
  exact nm_e h
theorem xa_node {post : SX → Prop} {d j n l g r : Nat} {x8 : Int32} (hd : d < 16) : ∀ u u2 : SX, gx_depth u = nI (d + 1) → gx_got u = nI g → gx_workLow u d = nI l → (∀ post : Int32 → SX → Prop, post (nI r) u2 → wpX_node post u (nI (5 - j)) (nI l) (nI g)) → gx_depth u2 = nI (d + 1) → post (xw_f u2 d (nI r)) → wX_changeStep_161 post (nI d) (nI n) (nI (5 - j)) (nI 2) x8 (gx_active u) (gx_outPlace u) (gx_outHeader u) (gx_freeNode u) (gx_freeCount u) (gx_keptDiagram u) (gx_depth u) (gx_got u) (gx_stamp u) (gx_links u) (gx_ruleCount u) (gx_matches u) (gx_actions u) (gx_changes u) (gx_states u) (gx_places u) (gx_headers u) (gx_tables u) (gx_treated u) (gx_nodes u) (gx_following u) (gx_marked u) (gx_bucket u) (gx_now u) (gx_next u) (gx_layer u) (gx_workLevel u) (gx_workOne u) (gx_workTwo u) (gx_workPhase u) (gx_workLow u) (gx_memoStamp u) (gx_memoOne u) (gx_memoTwo u) (gx_memoLevel u) (gx_memoGot u) := by
  rintro ⟨f_active, f_outPlace, f_outHeader, f_freeNode, f_freeCount, f_keptDiagram, f_depth, f_got, f_stamp, a_links, a_ruleCount, a_matches, a_actions, a_changes, a_states, a_places, a_headers, a_tables, a_treated, a_nodes, a_following, a_marked, a_bucket, a_now, a_next, a_layer, a_workLevel, a_workOne, a_workTwo, a_workPhase, a_workLow, a_memoStamp, a_memoOne, a_memoTwo, a_memoLevel, a_memoGot⟩ u2 e eg el HN e2 hp
  have eg' : f_got = nI g := eg
  subst eg'
  have el' : a_workLow (nI d).toNatClampNeg = nI l := by rw [nI_clamp (by omega)]; exact el
  refine br_t rfl (And.intro (vp_in_nI (by omega) (by decide)) ?_)
  show wpX_node _ (f_active, f_outPlace, f_outHeader, f_freeNode, f_freeCount, f_keptDiagram, f_depth, nI g, f_stamp, a_links, a_ruleCount, a_matches, a_actions, a_changes, a_states, a_places, a_headers, a_tables, a_treated, a_nodes, a_following, a_marked, a_bucket, a_now, a_next, a_layer, a_workLevel, a_workOne, a_workTwo, a_workPhase, a_workLow, a_memoStamp, a_memoOne, a_memoTwo, a_memoLevel, a_memoGot) (nI (5 - j)) (a_workLow (nI d).toNatClampNeg) (nI g)
  rw [el']
  refine HN _ ?_
  obtain ⟨f_active2, f_outPlace2, f_outHeader2, f_freeNode2, f_freeCount2, f_keptDiagram2, f_depth2, f_got2, f_stamp2, a_links2, a_ruleCount2, a_matches2, a_actions2, a_changes2, a_states2, a_places2, a_headers2, a_tables2, a_treated2, a_nodes2, a_following2, a_marked2, a_bucket2, a_now2, a_next2, a_layer2, a_workLevel2, a_workOne2, a_workTwo2, a_workPhase2, a_workLow2, a_memoStamp2, a_memoOne2, a_memoTwo2, a_memoLevel2, a_memoGot2⟩ := u2
  refine xp_fin hd _ e2 ?_
  exact hp
def lx_a (post : Int32 → SX → Prop) (m n x : Nat) (u : SX) : Prop := wX_afterChange_25 post (nI m) n (nI x) (gx_active u) (gx_outPlace u) (gx_outHeader u) (gx_freeNode u) (gx_freeCount u) (gx_keptDiagram u) (gx_depth u) (gx_got u) (gx_stamp u) (gx_links u) (gx_ruleCount u) (gx_matches u) (gx_actions u) (gx_changes u) (gx_states u) (gx_places u) (gx_headers u) (gx_tables u) (gx_treated u) (gx_nodes u) (gx_following u) (gx_marked u) (gx_bucket u) (gx_now u) (gx_next u) (gx_layer u) (gx_workLevel u) (gx_workOne u) (gx_workTwo u) (gx_workPhase u) (gx_workLow u) (gx_memoStamp u) (gx_memoOne u) (gx_memoTwo u) (gx_memoLevel u) (gx_memoGot u)
def rn_a (m c : Nat) (u u' : SX) : Prop := ∀ (post : Int32 → SX → Prop) (n x : Nat), x + c ≤ 600 → lx_a post m n (x + c) u' → lx_a post m (n + c) x u
theorem rn_a_t {m c c' : Nat} {u u1 u2 : SX} (h1 : rn_a m c u u1) (h2 : rn_a m c' u1 u2) : rn_a m (c + c') u u2 := by
  intro post n x hx H
  have h3 := h2 post n (x + c) (by omega) (by rw [Nat.add_assoc]; exact H)
  have h4 := h1 post (n + c') x (by omega) h3
  rw [show n + (c + c') = n + c' + c by omega]
  exact h4
theorem rn_a_1 {m d : Nat} {u u' : SX} (hd : gx_depth u = nI (d + 1)) (h16 : d < 16) (H : ∀ post : SX → Prop, post u' → wpX_changeStep post u (nI m)) : rn_a m 1 u u' := by
  intro post n x hx hl
  obtain ⟨f_active, f_outPlace, f_outHeader, f_freeNode, f_freeCount, f_keptDiagram, f_depth, f_got, f_stamp, a_links, a_ruleCount, a_matches, a_actions, a_changes, a_states, a_places, a_headers, a_tables, a_treated, a_nodes, a_following, a_marked, a_bucket, a_now, a_next, a_layer, a_workLevel, a_workOne, a_workTwo, a_workPhase, a_workLow, a_memoStamp, a_memoOne, a_memoTwo, a_memoLevel, a_memoGot⟩ := u
  refine br_f (nI_ge (b := 600) (by omega) (by decide)) (br_f (by rw [show f_depth = nI (d + 1) from hd]; exact nI_nle (by omega) (by omega)) (H _ ?_))
  obtain ⟨f_active2, f_outPlace2, f_outHeader2, f_freeNode2, f_freeCount2, f_keptDiagram2, f_depth2, f_got2, f_stamp2, a_links2, a_ruleCount2, a_matches2, a_actions2, a_changes2, a_states2, a_places2, a_headers2, a_tables2, a_treated2, a_nodes2, a_following2, a_marked2, a_bucket2, a_now2, a_next2, a_layer2, a_workLevel2, a_workOne2, a_workTwo2, a_workPhase2, a_workLow2, a_memoStamp2, a_memoOne2, a_memoTwo2, a_memoLevel2, a_memoGot2⟩ := u'
  exact nm_r (nI_1 x) hl
section
variable {c d j n : Nat} {F : List Nat} {u : SX}
theorem xa_s0 (e2 : xw_F u d 7 n 0 0) (hH : ¬ xw_H u (nI 7) (nI n) (nI 0)) (hc4 : c < 4096) (hd : d + 1 < 16) (hj : j < 6) (S : st_Ok (bx_S u) F) (hn : st_al F n) (e1 : gx_depth u = nI (d + 1)) (hl : dg_lv (st_nd (bx_S u) n) = 5 - j) : rn_a c 1 u (xw_p (xw_l (xw_h u d (nI 1)) d (gx_got u)) (d + 1) (nI 7) (nI (dg_hf (st_nd (bx_S u)) n (5 - j) (c.testBit (j + 6) && c.testBit j))) (nI 0)) := by
  refine rn_a_1 e1 (by omega) (fun post hp => ?_)
  refine xa_open (ph := 0) (by omega) (by omega) hn u S e1 e2 (fun _ z => absurd (hl.symm.trans z) (by omega)) (fun _ => ?_)
  rw [hl]
  refine xa_57 (by omega) u e1 (fun _ z => absurd z hH) (fun _ => ?_)
  refine xa_84 hc4 (by omega) hj u e2.2.2.2 (fun hb => ?_) (fun hb => ?_)
  · rw [hb, Bool.true_and] at hp
    exact br_f (by decide) (br_f (by decide) (xa_push hd hj (by omega) hn rfl (xw_h u d (nI (0 + 1))) S e1 hp))
  · rw [hb, Bool.false_and] at hp
    exact br_t rfl (xa_push (β := false) hd hj (by omega) hn rfl (xw_h u d (nI (0 + 1))) S e1 hp)
theorem xa_s1 (e2 : xw_F u d 7 n 0 1) (hb : c.testBit (j + 6) = true) {g : Nat} (eg : gx_got u = nI g) (hc4 : c < 4096) (hd : d + 1 < 16) (hj : j < 6) (S : st_Ok (bx_S u) F) (hn : st_al F n) (e1 : gx_depth u = nI (d + 1)) (hl : dg_lv (st_nd (bx_S u) n) = 5 - j) : rn_a c 1 u (xw_f (xw_h u d (nI 2)) d (nI g)) := by
  refine rn_a_1 e1 (by omega) (fun post hp => ?_)
  refine xa_open (ph := 1) (by omega) (by omega) hn u S e1 e2 (fun z _ => absurd z (by decide)) (fun _ => ?_)
  rw [hl]
  refine xa_57 (by omega) u e1 (fun z _ => absurd z (by decide)) (fun _ => ?_)
  refine xa_84 hc4 (by omega) hj u e2.2.2.2 (fun _ => ?_) (fun hb' => absurd (hb.symm.trans hb') (by decide))
  refine br_f (by decide) (br_t rfl ?_)
  have : gx_got (xw_h u d (nI (1 + 1))) = nI g := eg
  rw [this]
  exact xp_fin (by omega) (xw_h u d (nI (1 + 1))) e1 hp
theorem xa_s2 (e2 : xw_F u d 7 n 0 1) (hb : c.testBit (j + 6) = false) (hc4 : c < 4096) (hd : d + 1 < 16) (hj : j < 6) (S : st_Ok (bx_S u) F) (hn : st_al F n) (e1 : gx_depth u = nI (d + 1)) (hl : dg_lv (st_nd (bx_S u) n) = 5 - j) : rn_a c 1 u (xw_p (xw_l (xw_h u d (nI 2)) d (gx_got u)) (d + 1) (nI 7) (nI (dg_hf (st_nd (bx_S u)) n (5 - j) true)) (nI 0)) := by
  refine rn_a_1 e1 (by omega) (fun post hp => ?_)
  refine xa_open (ph := 1) (by omega) (by omega) hn u S e1 e2 (fun z _ => absurd z (by decide)) (fun _ => ?_)
  rw [hl]
  refine xa_57 (by omega) u e1 (fun z _ => absurd z (by decide)) (fun _ => ?_)
  refine xa_84 hc4 (by omega) hj u e2.2.2.2 (fun hb' => absurd (hb.symm.trans hb') (by decide)) (fun _ => ?_)
  exact br_t rfl (xa_push (β := true) hd hj (by omega) hn rfl (xw_h u d (nI (1 + 1))) S e1 hp)
theorem xa_s3 (e2 : xw_F u d 7 n 0 2) (hb : c.testBit (j + 6) = false) {g l r : Nat} {u2 : SX} (eg : gx_got u = nI g) (el : gx_workLow u d = nI l) (HN : ∀ post : Int32 → SX → Prop, post (nI r) u2 → wpX_node post (xw_h u d (nI 3)) (nI (5 - j)) (nI l) (nI g)) (hK : xs_K (xw_h u d (nI 3)) u2) (hc4 : c < 4096) (hd : d + 1 < 16) (hj : j < 6) (S : st_Ok (bx_S u) F) (hn : st_al F n) (e1 : gx_depth u = nI (d + 1)) (hl : dg_lv (st_nd (bx_S u) n) = 5 - j) : rn_a c 1 u (xw_f u2 d (nI r)) := by
  refine rn_a_1 e1 (by omega) (fun post hp => ?_)
  have e3 : gx_depth u2 = nI (d + 1) := (xk_d hK.2.2.2.1).trans e1
  refine xa_open (ph := 2) (by omega) (by omega) hn u S e1 e2 (fun z _ => absurd z (by decide)) (fun _ => ?_)
  rw [hl]
  refine xa_57 (by omega) u e1 (fun z _ => absurd z (by decide)) (fun _ => ?_)
  refine xa_84 hc4 (by omega) hj u e2.2.2.2 (fun hb' => absurd (hb.symm.trans hb') (by decide)) (fun _ => ?_)
  exact br_t rfl (xa_node (by omega) (xw_h u d (nI (2 + 1))) u2 e1 eg el HN e3 hp)
end
end
section
/-! afterChange: the whole run -/
theorem xw_D_le {sp : SB → List Nat → Nat → Nat → Nat → Nat → Prop} {σ M M' L a b : Nat} {u u' : SX} {F F' : List Nat} {d r : Nat} (h : xw_D sp σ M L a b u F u' F' d r) (hM : M ≤ M') : xw_D sp σ M' L a b u F u' F' d r := ⟨h.1, h.2.1, by have := h.2.2.1; omega, h.2.2.2⟩
theorem xa_run {c σ : Nat} (hc4 : c < 4096) : ∀ k, k ≤ 6 → ∀ (u : SX) (F : List Nat) (d n : Nat), st_Ok (bx_S u) F → mo_g (sp_a c) σ u F → gx_depth u = nI (d + 1) → d + k < 16 → xw_F u d 7 n 0 0 → st_al F n → 6 - k ≤ dg_lv (st_nd (bx_S u) n) → 2 ^ k ≤ F.length + 1 → ∃ (q : Nat) (u' : SX) (F' : List Nat) (r : Nat), q + 3 ≤ 4 * 2 ^ k ∧ rn_a c q u u' ∧ xw_D (sp_a c) σ (2 ^ k) 7 n 0 u F u' F' d r := by
  intro k
  induction k with
  | zero =>
    intro hk u F d n S hmo hd hdk hfr hn ln hF
    have hl : dg_lv (st_nd (bx_S u) n) = 6 := by have := dg_le6 (st_W S) hn; omega
    refine ⟨1, sx_dg u (nI d) (nI n), F, n, by decide, ?_, S, st_E_r _ _, by omega, rfl, fun i _ => ⟨rfl, rfl, rfl, rfl, rfl⟩, ⟨rfl, rfl, rfl, rfl⟩, rfl, ⟨hn, hn, Nat.le_refl _, fun h => ?_⟩, hmo⟩
    · refine rn_a_1 hd (by omega) (fun post hp => ?_)
      exact xa_open (ph := 0) (by omega) (by omega) hn u S hd hfr (fun _ _ => hp) (fun z => absurd hl (by rcases z with z | z; exact absurd rfl z; exact z))
    · show dg_ev (st_nd (bx_S u)) 6 n h = dg_ev (st_nd (bx_S u)) 6 n (ch_v c h)
      rw [dg_ev_leaf hl 6 h (by omega), dg_ev_leaf hl 6 _ (by omega)]
  | succ j ih =>
    intro hk u F d n S hmo hd hdk hfr hn ln hF
    have hp2 : 2 ^ (j + 1) = 2 * 2 ^ j := by rw [Nat.pow_succ]; omega
    have hpos : 0 < 2 ^ j := Nat.two_pow_pos j
    have hn4 := hn.1
    by_cases hlv : dg_lv (st_nd (bx_S u) n) = 5 - j
    · by_cases hH : xw_H u (nI 7) (nI n) (nI 0)
      · obtain ⟨r, er, hs⟩ := mo_h hmo (by omega) hn4 (by omega) hH
        refine ⟨1, sx_dg u (nI d) (nI r), F, r, by omega, ?_, S, st_E_r _ _, by omega, rfl, fun i _ => ⟨rfl, rfl, rfl, rfl, rfl⟩, ⟨rfl, rfl, rfl, rfl⟩, rfl, hs, hmo⟩
        refine rn_a_1 hd (by omega) (fun post hp => ?_)
        refine xa_open (ph := 0) (by omega) (by omega) hn u S hd hfr (fun _ z => absurd (hlv.symm.trans z) (by omega)) (fun _ => ?_)
        refine xa_57 (by omega) u hd (fun _ _ => by rw [er]; exact hp) (fun z => absurd hH (by
          rcases z with z | z
          · exact absurd rfl z
          · exact z))
      · have W := st_W S
        generalize hβ : (c.testBit (j + 6) && c.testBit j) = β
        have r0 := xa_s0 hfr hH hc4 (by omega) (by omega) S hn hd hlv
        rw [hβ] at r0
        have a1 := dg_hf_al W hn (L := 5 - j) (by omega) β
        have la1 := dg_hf_lv W hn (L := 5 - j) (by omega) β (by omega)
        generalize hu1 : xw_p (xw_l (xw_h u d (nI 1)) d (gx_got u)) (d + 1) (nI 7) (nI (dg_hf (st_nd (bx_S u)) n (5 - j) β)) (nI 0) = u1 at r0
        have hq := xq_1 hfr 7 (dg_hf (st_nd (bx_S u)) n (5 - j) β) 0 1 (gx_got u)
        rw [hu1] at hq
        obtain ⟨q1, q0, q3, q4, q5, q6, q7, _⟩ := hq
        have q2 : mo_g (sp_a c) σ u1 F := mo_cg q1 q0 hmo
        obtain ⟨c1, u2, F2, r1, hc1, rn1, S2, E2, l2, d2, B2, C2, g2, s2, m2⟩ := ih (by omega) u1 F (d + 1) _ (by rw [q1]; exact S) q2 q3 (by omega) q4 a1 (by rw [q1]; omega) (by omega)
        rw [q1] at E2
        have f2 : xw_F u2 d 7 n 0 1 := by
          have := B2 d (by omega)
          exact ⟨this.1.trans q7.1, this.2.1.trans q7.2.1, this.2.2.1.trans q7.2.2.1, this.2.2.2.1.trans q7.2.2.2⟩
        have rn02 := rn_a_t r0 rn1
        have B02 : xw_B u u2 d := xw_B_t q6 (xw_B_le B2 (by omega))
        have C02 : xw_C u u2 := xw_C_t q5 C2
        have n2 := st_E_al E2 hn
        have nn2 := st_E_nd E2 hn
        have lv2 : dg_lv (st_nd (bx_S u2) n) = 5 - j := by rw [nn2]; exact hlv
        have W2 := st_W S2
        obtain ⟨s2a, s2b, s2c, s2d⟩ := s2
        have ha1 : dg_hf (st_nd (bx_S u2)) n (5 - j) β = dg_hf (st_nd (bx_S u)) n (5 - j) β := dg_hf_ext nn2 _ _
        rw [← ha1] at s2c s2d
        have lc := fun z => dg_hf_lv W2 n2 (L := 5 - j) (by omega) z (by omega)
        by_cases hc : c.testBit (j + 6) = true
        · have hβ' : β = c.testBit j := by rw [← hβ, hc, Bool.true_and]
          have rn3 := xa_s1 f2 hc g2 hc4 (by omega) (by omega) S2 n2 d2 lv2
          refine ⟨1 + c1 + 1, xw_f (xw_h u2 d (nI 2)) d (nI r1), F2, r1, by omega, rn_a_t rn02 rn3, ?_⟩
          refine xw_end (sp_a_M c) (u1 := xw_h u2 d (nI 2)) (F1 := F2) (ph := 2) S2 E2 (xw_B_t B02 (xw_B_h u2 d (nI 2))) (xw_C_t C02 (xq_h f2 2).1) (mo_cg (bx_S_h _ _ _) (bx_M_h _ _ _) m2) (xq_h f2 2).2 (xs_K_r _) S2 (st_E_r _ _) (by omega) (by omega) hn4 (by omega) ?_
          have lcβ := lc β
          refine ⟨n2, s2b, by show dg_lv (st_nd (bx_S u2) n) ≤ dg_lv (st_nd (bx_S u2) r1); omega, fun h => ?_⟩
          show dg_ev (st_nd (bx_S u2)) 6 r1 h = dg_ev (st_nd (bx_S u2)) 6 n (ch_v c h)
          rw [s2d h, dg_ev6_n W2 n2 (by omega) lv2, ch_bit, if_pos hc, hβ']
        · have hc0 : c.testBit (j + 6) = false := by
            cases z : c.testBit (j + 6)
            · rfl
            · exact absurd z hc
          have hβ' : β = false := by rw [← hβ, hc0, Bool.false_and]
          rw [hβ'] at s2c s2d
          have r2 := xa_s2 f2 hc0 hc4 (by omega) (by omega) S2 n2 d2 lv2
          generalize hu3 : xw_p (xw_l (xw_h u2 d (nI 2)) d (gx_got u2)) (d + 1) (nI 7) (nI (dg_hf (st_nd (bx_S u2)) n (5 - j) true)) (nI 0) = u3 at r2
          have hq := xq_1 f2 7 (dg_hf (st_nd (bx_S u2)) n (5 - j) true) 0 2 (gx_got u2)
          rw [hu3] at hq
          obtain ⟨p1, p0, p3, p4, p5, p6, p7, p8'⟩ := hq
          have p2 : mo_g (sp_a c) σ u3 F2 := mo_cg p1 p0 m2
          have p8 : gx_workLow u3 d = nI r1 := p8'.trans g2
          have at2 := dg_hf_al W2 n2 (L := 5 - j) (by omega) true
          have lat := lc true
          have laf := lc false
          obtain ⟨c2, u4, F4, r2', hc2, rn3, S4, E4, l4, d4, B4, C4, g4, s4, m4⟩ := ih (by omega) u3 F2 (d + 1) _ (by rw [p1]; exact S2) p2 p3 (by omega) p4 at2 (by rw [p1]; omega) (by omega)
          rw [p1] at E4
          have f4 : xw_F u4 d 7 n 0 2 := by
            have := B4 d (by omega)
            exact ⟨this.1.trans p7.1, this.2.1.trans p7.2.1, this.2.2.1.trans p7.2.2.1, this.2.2.2.1.trans p7.2.2.2⟩
          have w4 : gx_workLow u4 d = nI r1 := (B4 d (by omega)).2.2.2.2.trans p8
          obtain ⟨s4a, s4b, s4c, s4d⟩ := s4
          have n4 := st_E_al E4 n2
          have lv4 : dg_lv (st_nd (bx_S u4) n) = 5 - j := by rw [st_E_nd E4 n2]; exact lv2
          have xt : st_nd (bx_S u4) (dg_hf (st_nd (bx_S u2)) n (5 - j) true) = st_nd (bx_S u2) (dg_hf (st_nd (bx_S u2)) n (5 - j) true) := st_E_nd E4 at2
          have x1 : st_nd (bx_S u4) r1 = st_nd (bx_S u2) r1 := st_E_nd E4 s2b
          rw [xt] at s4c
          obtain ⟨r, u6, F6, HN, K6, S6, E6, l6, al6, lv6, ev6⟩ := xl_node (k := j) (a := r1) (b := r2') (by omega) (F := F4) (by omega) (xw_h u4 d (nI 3)) S4 (st_E_al E4 s2b) s4b (by
              show _ ≤ dg_lv (st_nd (bx_S u4) r1)
              rw [x1]; omega) (by
              show _ ≤ dg_lv (st_nd (bx_S u4) r2')
              omega)
          have rn5 := xa_s3 f4 hc0 g4 w4 HN K6 hc4 (by omega) (by omega) S4 n4 d4 lv4
          refine ⟨1 + c1 + (1 + c2) + 1, xw_f u6 d (nI r), F6, r, by omega, rn_a_t (rn_a_t rn02 (rn_a_t r2 rn3)) rn5, ?_⟩
          have E04 := st_E_t E2 E4
          refine xw_end (sp_a_M c) (u1 := xw_h u4 d (nI 3)) (F1 := F4) (ph := 3) S4 E04 (xw_B_t (xw_B_t B02 (xw_B_t p6 (xw_B_le B4 (by omega)))) (xw_B_h u4 d (nI 3))) (xw_C_t (xw_C_t C02 (xw_C_t p5 C4)) (xq_h f4 3).1) (mo_cg (bx_S_h _ _ _) (bx_M_h _ _ _) m4) (xq_h f4 3).2 K6 S6 E6 (by omega) (by omega) hn4 (by omega) ?_
          have E26 := st_E_t E4 E6
          have lv6n : dg_lv (st_nd (bx_S u6) n) = 5 - j := by rw [st_E_nd E26 n2]; exact lv2
          refine ⟨st_E_al E26 n2, al6, by rw [lv6n]; exact lv6, fun h => ?_⟩
          have W6 := st_W S6
          rw [dg_ev6 (j := j + 1) (n := r) (by omega) (by omega), ev6 h, st_ev S2 E26 (by omega) n2, dg_ev6_n W2 n2 (by omega) lv2, ch_bit, if_neg hc]
          show (if h.testBit j = true then dg_ev (st_nd (bx_S u4)) j r2' h else dg_ev (st_nd (bx_S u4)) j r1 h) = _
          rw [← dg_ev6 (nd := st_nd (bx_S u4)) (n := r2') (j := j) (by omega) (by omega), ← dg_ev6 (nd := st_nd (bx_S u4)) (n := r1) (j := j) (by omega) (by rw [x1]; omega), s4d h, st_ev S2 E4 (by omega) at2, st_ev S2 E4 (by omega) s2b, s2d h]
          cases y : h.testBit j
          · rw [if_neg (by decide)]
          · rw [if_pos rfl]
    · obtain ⟨c1, u2, F2, r1, hc1, rn1, hD⟩ := ih (by omega) u F d n S hmo hd (by omega) hfr hn (by omega) (by omega)
      exact ⟨c1, u2, F2, r1, by omega, rn1, xw_D_le hD (by omega)⟩
theorem xp_change {post : Int32 → SX → Prop} {m a σ n : Nat} : ∀ u : SX, gx_stamp u = nI σ → lx_a post m n 0 (xw_p (sx_ds u 0 (nI (σ + 1))) 0 (nI 7) (nI a) (nI 0)) → wpX_afterChange post u (nI m) (nI a) := by
  rintro ⟨f_active, f_outPlace, f_outHeader, f_freeNode, f_freeCount, f_keptDiagram, f_depth, f_got, f_stamp, a_links, a_ruleCount, a_matches, a_actions, a_changes, a_states, a_places, a_headers, a_tables, a_treated, a_nodes, a_following, a_marked, a_bucket, a_now, a_next, a_layer, a_workLevel, a_workOne, a_workTwo, a_workPhase, a_workLow, a_memoStamp, a_memoOne, a_memoTwo, a_memoLevel, a_memoGot⟩ es h2
  refine nm_r (e' := nI (σ + 1)) ?_ (xp_pushT f_active f_outPlace f_outHeader f_freeNode f_freeCount f_keptDiagram 0 f_got (nI (σ + 1)) a_links a_ruleCount a_matches a_actions a_changes a_states a_places a_headers a_tables a_treated a_nodes a_following a_marked a_bucket a_now a_next a_layer a_workLevel a_workOne a_workTwo a_workPhase a_workLow a_memoStamp a_memoOne a_memoTwo a_memoLevel a_memoGot 0 (by decide) rfl (Exists.intro n h2))
  rw [show f_stamp = nI σ from es, nI_1]
theorem lx_a_end {post : Int32 → SX → Prop} {m c r : Nat} (hc : c < 600) : ∀ u : SX, gx_depth u = nI 0 → gx_got u = nI r → post (nI r) u → lx_a post m 1 c u := by
  rintro ⟨f_active, f_outPlace, f_outHeader, f_freeNode, f_freeCount, f_keptDiagram, f_depth, f_got, f_stamp, a_links, a_ruleCount, a_matches, a_actions, a_changes, a_states, a_places, a_headers, a_tables, a_treated, a_nodes, a_following, a_marked, a_bucket, a_now, a_next, a_layer, a_workLevel, a_workOne, a_workTwo, a_workPhase, a_workLow, a_memoStamp, a_memoOne, a_memoTwo, a_memoLevel, a_memoGot⟩ d' g' hp
  have h3 : post (gx_got (f_active, f_outPlace, f_outHeader, f_freeNode, f_freeCount, f_keptDiagram, f_depth, f_got, f_stamp, a_links, a_ruleCount, a_matches, a_actions, a_changes, a_states, a_places, a_headers, a_tables, a_treated, a_nodes, a_following, a_marked, a_bucket, a_now, a_next, a_layer, a_workLevel, a_workOne, a_workTwo, a_workPhase, a_workLow, a_memoStamp, a_memoOne, a_memoTwo, a_memoLevel, a_memoGot)) (f_active, f_outPlace, f_outHeader, f_freeNode, f_freeCount, f_keptDiagram, f_depth, f_got, f_stamp, a_links, a_ruleCount, a_matches, a_actions, a_changes, a_states, a_places, a_headers, a_tables, a_treated, a_nodes, a_following, a_marked, a_bucket, a_now, a_next, a_layer, a_workLevel, a_workOne, a_workTwo, a_workPhase, a_workLow, a_memoStamp, a_memoOne, a_memoTwo, a_memoLevel, a_memoGot) := by rw [g']; exact hp
  exact br_f (nI_ge (b := 600) (by omega) (by decide)) (br_t (by rw [d']; decide) h3)
theorem xd_change {c a σ : Nat} {fa : Nat → Nat} (hc4 : c < 4096) {F : List Nat} (hF : 63 ≤ F.length) (hσ : σ + 1 < 2 ^ 31) (u : SX) (S : st_Ok (bx_S u) F) (hs : ms_k u σ) (ha : dg_R (bx_S u) F a fa) : ∃ (r : Nat) (u' : SX) (F' : List Nat), (∀ post : Int32 → SX → Prop, post (nI r) u' → wpX_afterChange post u (nI c) (nI a)) ∧ xd_W 63 u F u' F' (σ + 1) ∧ dg_R (bx_S u') F' r (fun h => fa (ch_v c h)) := by
  obtain ⟨q1, q2, q3, q4, q5, q6, q7⟩ := xq_s u (nI (σ + 1)) 7 a 0
  have hpc := fun (post : Int32 → SX → Prop) (n : Nat) => xp_change (post := post) (m := c) (a := a) (n := n) u hs.1
  generalize xw_p (sx_ds u 0 (nI (σ + 1))) 0 (nI 7) (nI a) (nI 0) = u1 at q1 q2 q3 q4 q5 q6 q7 hpc
  have e2 : mo_g (sp_a c) (σ + 1) u1 F := mo_0 hσ q4 (by rw [q5]; exact hs.2)
  obtain ⟨q, u', F', r, hc, rn, S', E', l', d', B', C', g', s', m'⟩ := xa_run hc4 6 (by omega) u1 F 0 a (by rw [q1]; exact S) e2 q6 (by omega) q7 ha.1 (by omega) (by show 64 ≤ _; omega)
  rw [q1] at E'
  refine ⟨r, u', F', ?_, ⟨S', E', by have : F.length + 1 ≤ F'.length + 64 := l'; omega, C'.1.trans q2, C'.2.1.trans q3, m'.1⟩, s'.2.1, ?_⟩
  · intro post hp
    have hc' : q + 3 ≤ 256 := hc
    have h1 : lx_a post c 1 (0 + q) u' := lx_a_end (by omega) u' d' g' hp
    exact hpc post _ (rn post 1 0 (by omega) h1)
  · intro h hh
    have := s'.2.2.2 h
    rw [st_ev S E' (by omega) ha.1] at this
    rw [this]
    exact ha.2 _ (ch_lt hc4 hh)
end
section
/-! counting in a diagram -/
def cn_C (nd : Nat → Nat) (v k n : Nat) : Nat := cn_t k (fun h => dg_ev nd k n h == v)
theorem cn_C_s (nd : Nat → Nat) (v j n : Nat) : cn_C nd v (j + 1) n = cn_C nd v j (dg_hf nd n (5 - j) false) + cn_C nd v j (dg_hf nd n (5 - j) true) := by
  unfold cn_C
  show cn_t j (fun h => dg_ev nd (j + 1) n h == v) + cn_t j (fun h => dg_ev nd (j + 1) n (2 ^ j + h) == v) = _
  rw [cn_t_cg j _ (fun h => dg_ev nd j (dg_hf nd n (5 - j) false) h == v) (fun h hh => by rw [dg_ev_s, Nat.testBit_lt_two_pow hh]), cn_t_cg j (fun h => dg_ev nd (j + 1) n (2 ^ j + h) == v) (fun h => dg_ev nd j (dg_hf nd n (5 - j) true) h == v) (fun h hh => by
    have e : (2 ^ j + h).testBit j = true := by rw [Nat.testBit_two_pow_add_eq, Nat.testBit_lt_two_pow hh]; rfl
    rw [dg_ev_s, e, dg_ev_bits nd j _ _ h (fun i hi => Nat.testBit_two_pow_add_gt hi h)])]
theorem cn_C_2 (nd : Nat → Nat) (v j n : Nat) (h : dg_lv (nd n) ≠ 5 - j) : cn_C nd v (j + 1) n = 2 * cn_C nd v j n := by
  have e : ∀ b, dg_hf nd n (5 - j) b = n := fun b => by unfold dg_hf; rw [if_neg h]
  rw [cn_C_s, e, e]; omega
def lx_t (post : Int32 → SX → Prop) (v n x3 x4 : Nat) (u : SX) : Prop := wX_countOf_18 post (nI v) n (nI x3) (nI x4) (gx_active u) (gx_outPlace u) (gx_outHeader u) (gx_freeNode u) (gx_freeCount u) (gx_keptDiagram u) (gx_depth u) (gx_got u) (gx_stamp u) (gx_links u) (gx_ruleCount u) (gx_matches u) (gx_actions u) (gx_changes u) (gx_states u) (gx_places u) (gx_headers u) (gx_tables u) (gx_treated u) (gx_nodes u) (gx_following u) (gx_marked u) (gx_bucket u) (gx_now u) (gx_next u) (gx_layer u) (gx_workLevel u) (gx_workOne u) (gx_workTwo u) (gx_workPhase u) (gx_workLow u) (gx_memoStamp u) (gx_memoOne u) (gx_memoTwo u) (gx_memoLevel u) (gx_memoGot u)
def rn_t (v c t : Nat) (u u' : SX) : Prop := ∀ (post : Int32 → SX → Prop) (n x3 x4 : Nat), x4 + c ≤ 200 → lx_t post v n (x3 + t) (x4 + c) u' → lx_t post v (n + c) x3 x4 u
theorem rn_t_t {v c c' t t' : Nat} {u u1 u2 : SX} (h1 : rn_t v c t u u1) (h2 : rn_t v c' t' u1 u2) : rn_t v (c + c') (t + t') u u2 := by
  intro post n x3 x4 hx H
  have h3 := h2 post n (x3 + t) (x4 + c) (by omega) (by rw [Nat.add_assoc, Nat.add_assoc]; exact H)
  have h4 := h1 post (n + c') x3 x4 (by omega) h3
  rw [show n + (c + c') = n + c' + c by omega]
  exact h4
def xt_K (u u' : SX) : Prop := bx_C u' = bx_C u ∧ bx_D u' = bx_D u ∧ bx_S u' = bx_S u ∧ bx_M u' = bx_M u
theorem xt_K_r (u : SX) : xt_K u u := ⟨rfl, rfl, rfl, rfl⟩
theorem xt_K_t {u u' u2 : SX} (h : xt_K u u') (h2 : xt_K u' u2) : xt_K u u2 := ⟨h2.1.trans h.1, h2.2.1.trans h.2.1, h2.2.2.1.trans h.2.2.1, h2.2.2.2.trans h.2.2.2⟩
theorem xp_pushI {post : SX → Prop} {p0 p1 p2 : Int32} {f_active : Int32} {f_outPlace : Int32} {f_outHeader : Int32} {f_freeNode : Int32} {f_freeCount : Int32} {f_keptDiagram : Int32} {f_depth : Int32} {f_got : Int32} {f_stamp : Int32} {a_links : Nat → Int32} {a_ruleCount : Nat → Int32} {a_matches : Nat → Int32} {a_actions : Nat → Int32} {a_changes : Nat → Int32} {a_states : Nat → Int32} {a_places : Nat → Int32} {a_headers : Nat → Int32} {a_tables : Nat → Int32} {a_treated : Nat → Int32} {a_nodes : Nat → Int32} {a_following : Nat → Int32} {a_marked : Nat → Int32} {a_bucket : Nat → Int32} {a_now : Nat → Int32} {a_next : Nat → Int32} {a_layer : Nat → Int32} {a_workLevel : Nat → Int32} {a_workOne : Nat → Int32} {a_workTwo : Nat → Int32} {a_workPhase : Nat → Int32} {a_workLow : Nat → Int32} {a_memoStamp : Nat → Int32} {a_memoOne : Nat → Int32} {a_memoTwo : Nat → Int32} {a_memoLevel : Nat → Int32} {a_memoGot : Nat → Int32} (d : Nat) (hd : d < 16) (e : f_depth = nI d) (hp : post (f_active, f_outPlace, f_outHeader, f_freeNode, f_freeCount, f_keptDiagram, nI (d + 1), f_got, f_stamp, a_links, a_ruleCount, a_matches, a_actions, a_changes, a_states, a_places, a_headers, a_tables, a_treated, a_nodes, a_following, a_marked, a_bucket, a_now, a_next, a_layer, upd a_workLevel d p0, upd a_workOne d p1, upd a_workTwo d p2, upd a_workPhase d 0, a_workLow, a_memoStamp, a_memoOne, a_memoTwo, a_memoLevel, a_memoGot)) : wpX_push post (f_active, f_outPlace, f_outHeader, f_freeNode, f_freeCount, f_keptDiagram, f_depth, f_got, f_stamp, a_links, a_ruleCount, a_matches, a_actions, a_changes, a_states, a_places, a_headers, a_tables, a_treated, a_nodes, a_following, a_marked, a_bucket, a_now, a_next, a_layer, a_workLevel, a_workOne, a_workTwo, a_workPhase, a_workLow, a_memoStamp, a_memoOne, a_memoTwo, a_memoLevel, a_memoGot) p0 p1 p2 := xp_pushT f_active f_outPlace f_outHeader f_freeNode f_freeCount f_keptDiagram f_depth f_got f_stamp a_links a_ruleCount a_matches a_actions a_changes a_states a_places a_headers a_tables a_treated a_nodes a_following a_marked a_bucket a_now a_next a_layer a_workLevel a_workOne a_workTwo a_workPhase a_workLow a_memoStamp a_memoOne a_memoTwo a_memoLevel a_memoGot d hd e hp
theorem xt_leaf {v d w n : Nat} {F : List Nat} (hv : v < 4096) (hd : d < 16) (hn : st_al F n) : ∀ u : SX, st_Ok (bx_S u) F → gx_depth u = nI (d + 1) → gx_workLevel u d = nI w → gx_workOne u d = nI n → dg_lv (st_nd (bx_S u) n) = 6 → rn_t v 1 (if (dg_lo (st_nd (bx_S u) n) == v) = true then w else 0) u (sx_depth u (nI d)) := by
  intro u S e1 e2 e3 hl post m x3 x4 hx H
  have S' : st_Ok (bx_S (sx_depth u (nI d))) F := S
  have klv : ∀ post : Int32 → Prop, post (nI 6) → wpX_levelOf post (sx_depth u (nI d)) (nI n) := fun post hp => xl_lv hn _ S' (by rw [show dg_lv (st_nd (bx_S (sx_depth u (nI d))) n) = 6 from hl]; exact hp)
  have klo : ∀ post : Int32 → Prop, post (nI (dg_lo (st_nd (bx_S u) n))) → wpX_lowOf post (sx_depth u (nI d)) (nI n) := fun post hp => xl_lo hn _ S' hp
  have hlo := dg_lo_lt (st_nd (bx_S u) n)
  generalize dg_lo (st_nd (bx_S u) n) = z at klo hlo H
  obtain ⟨f_active, f_outPlace, f_outHeader, f_freeNode, f_freeCount, f_keptDiagram, f_depth, f_got, f_stamp, a_links, a_ruleCount, a_matches, a_actions, a_changes, a_states, a_places, a_headers, a_tables, a_treated, a_nodes, a_following, a_marked, a_bucket, a_now, a_next, a_layer, a_workLevel, a_workOne, a_workTwo, a_workPhase, a_workLow, a_memoStamp, a_memoOne, a_memoTwo, a_memoLevel, a_memoGot⟩ := u
  have hvd : vp_in (nI d) 16 := vp_in_nI hd (by decide)
  have hc : (nI d).toNatClampNeg = d := nI_clamp (by omega)
  have ed : f_depth - 1 = nI d := by rw [show f_depth = nI (d + 1) from e1, nI_pred]
  show wX_countOf_18 post (nI v) (m + 1) (nI x3) (nI x4) f_active f_outPlace f_outHeader f_freeNode f_freeCount f_keptDiagram f_depth f_got f_stamp a_links a_ruleCount a_matches a_actions a_changes a_states a_places a_headers a_tables a_treated a_nodes a_following a_marked a_bucket a_now a_next a_layer a_workLevel a_workOne a_workTwo a_workPhase a_workLow a_memoStamp a_memoOne a_memoTwo a_memoLevel a_memoGot
  refine br_f (nI_ge (b := 200) (by omega) (by decide)) (br_f (by rw [show f_depth = nI (d + 1) from e1]; exact nI_nle (by omega) (by omega)) ?_)
  refine nm_r ed (And.intro hvd (nm_r (e' := nI w) (by rw [hc]; exact e2) (And.intro hvd (nm_r (e' := nI n) (by rw [hc]; exact e3) (klv _ ?_)))))
  refine br_t rfl (klo _ ?_)
  refine pk_eq z v (fun y => nm_r (nI_add x3 w) (nm_r (nI_1 x4) ?_)) (fun y => nm_r (nI_add x3 0) (nm_r (nI_1 x4) ?_))
  · rw [if_pos (by rw [beq_iff_eq]; exact y)] at H
    exact H
  · rw [if_neg (by rw [beq_iff_eq]; exact y)] at H
    exact H
theorem xt_node {v d w n : Nat} {F : List Nat} (hd : d + 1 < 16) (hw : w < 2 ^ 31) (hn : st_al F n) : ∀ u : SX, st_Ok (bx_S u) F → gx_depth u = nI (d + 1) → gx_workLevel u d = nI w → gx_workOne u d = nI n → dg_lv (st_nd (bx_S u) n) ≠ 6 → rn_t v 1 0 u (xw_p (xw_p (sx_depth u (nI d)) d (nI (w / 2)) (nI (dg_hi (st_nd (bx_S u) n))) (nI 0)) (d + 1) (nI (w / 2)) (nI (dg_lo (st_nd (bx_S u) n))) (nI 0)) := by
  intro u S e1 e2 e3 hl post m x3 x4 hx H
  have S' : st_Ok (bx_S (sx_depth u (nI d))) F := S
  have h6 := dg_le6 (st_W S) hn
  have klv : ∀ post : Int32 → Prop, post (nI (dg_lv (st_nd (bx_S u) n))) → wpX_levelOf post (sx_depth u (nI d)) (nI n) := fun post hp => xl_lv hn _ S' hp
  have klo : ∀ post : Int32 → Prop, post (nI (dg_lo (st_nd (bx_S u) n))) → wpX_lowOf post (sx_depth u (nI d)) (nI n) := fun post hp => xl_lo hn _ S' hp
  have khi : ∀ post : Int32 → Prop, post (nI (dg_hi (st_nd (bx_S u) n))) → wpX_highOf post (sx_depth u (nI d)) (nI n) := fun post hp => xl_hi hn _ S' hp
  generalize dg_lv (st_nd (bx_S u) n) = l at klv h6 hl
  generalize dg_lo (st_nd (bx_S u) n) = z at klo H
  generalize dg_hi (st_nd (bx_S u) n) = y at khi H
  obtain ⟨f_active, f_outPlace, f_outHeader, f_freeNode, f_freeCount, f_keptDiagram, f_depth, f_got, f_stamp, a_links, a_ruleCount, a_matches, a_actions, a_changes, a_states, a_places, a_headers, a_tables, a_treated, a_nodes, a_following, a_marked, a_bucket, a_now, a_next, a_layer, a_workLevel, a_workOne, a_workTwo, a_workPhase, a_workLow, a_memoStamp, a_memoOne, a_memoTwo, a_memoLevel, a_memoGot⟩ := u
  have hvd : vp_in (nI d) 16 := vp_in_nI (by omega) (by decide)
  have hc : (nI d).toNatClampNeg = d := nI_clamp (by omega)
  have ed : f_depth - 1 = nI d := by rw [show f_depth = nI (d + 1) from e1, nI_pred]
  show wX_countOf_18 post (nI v) (m + 1) (nI x3) (nI x4) f_active f_outPlace f_outHeader f_freeNode f_freeCount f_keptDiagram f_depth f_got f_stamp a_links a_ruleCount a_matches a_actions a_changes a_states a_places a_headers a_tables a_treated a_nodes a_following a_marked a_bucket a_now a_next a_layer a_workLevel a_workOne a_workTwo a_workPhase a_workLow a_memoStamp a_memoOne a_memoTwo a_memoLevel a_memoGot
  refine br_f (nI_ge (b := 200) (by omega) (by decide)) (br_f (by rw [show f_depth = nI (d + 1) from e1]; exact nI_nle (by omega) (by omega)) ?_)
  refine nm_r ed (And.intro hvd (nm_r (e' := nI w) (by rw [hc]; exact e2) (And.intro hvd (nm_r (e' := nI n) (by rw [hc]; exact e3) (klv _ ?_)))))
  refine br_f (nb_ne (b := 6) (by omega) (by decide) hl) (klo _ (khi _ ?_))
  rw [nb_shr1 hw]
  refine xp_pushI d (by omega) rfl ?_
  refine xp_pushI (d + 1) (by omega) rfl ?_
  exact nm_r (nI_1 x4) H
theorem bx_C_dp (u : SX) (d : Int32) : bx_C (sx_depth u d) = bx_C u := rfl
theorem bx_D_dp (u : SX) (d : Int32) : bx_D (sx_depth u d) = bx_D u := rfl
theorem bx_S_dp (u : SX) (d : Int32) : bx_S (sx_depth u d) = bx_S u := rfl
theorem bx_M_dp (u : SX) (d : Int32) : bx_M (sx_depth u d) = bx_M u := rfl
/-- two frames pushed in the place of one -/
theorem xq_2 (u : SX) (d : Nat) (x y z x' y' z' : Int32) : xt_K u (xw_p (xw_p (sx_depth u (nI d)) d x y z) (d + 1) x' y' z') ∧ gx_depth (xw_p (xw_p (sx_depth u (nI d)) d x y z) (d + 1) x' y' z') = nI (d + 1 + 1) ∧ (gx_workLevel (xw_p (xw_p (sx_depth u (nI d)) d x y z) (d + 1) x' y' z') (d + 1) = x' ∧ gx_workOne (xw_p (xw_p (sx_depth u (nI d)) d x y z) (d + 1) x' y' z') (d + 1) = y' ∧ gx_workTwo (xw_p (xw_p (sx_depth u (nI d)) d x y z) (d + 1) x' y' z') (d + 1) = z') ∧ (gx_workLevel (xw_p (xw_p (sx_depth u (nI d)) d x y z) (d + 1) x' y' z') d = x ∧ gx_workOne (xw_p (xw_p (sx_depth u (nI d)) d x y z) (d + 1) x' y' z') d = y ∧ gx_workTwo (xw_p (xw_p (sx_depth u (nI d)) d x y z) (d + 1) x' y' z') d = z) ∧ xw_B u (xw_p (xw_p (sx_depth u (nI d)) d x y z) (d + 1) x' y' z') d := by
  refine ⟨⟨by rw [bx_C_p, bx_C_p, bx_C_dp], by rw [bx_D_p, bx_D_p, bx_D_dp], by rw [bx_S_p, bx_S_p, bx_S_dp], by rw [bx_M_p, bx_M_p, bx_M_dp]⟩, gx_depth_p _ _ _ _ _, ⟨by rw [gx_workLevel_p, pk_us], by rw [gx_workOne_p, pk_us], by rw [gx_workTwo_p, pk_us]⟩, ⟨by rw [gx_workLevel_p, pk_un (by omega), gx_workLevel_p, pk_us], by rw [gx_workOne_p, pk_un (by omega), gx_workOne_p, pk_us], by rw [gx_workTwo_p, pk_un (by omega), gx_workTwo_p, pk_us]⟩, ?_⟩
  exact xw_B_t (xw_B_t (u' := sx_depth u (nI d)) (fun i _ => ⟨rfl, rfl, rfl, rfl, rfl⟩) (xw_B_p (sx_depth u (nI d)) d _ _ _)) (xw_B_le (xw_B_p _ (d + 1) _ _ _) (by omega))
/-- the first frame of a count -/
theorem xq_c (u : SX) (x y z : Int32) : xt_K u (xw_p (sx_depth u (nI 0)) 0 x y z) ∧ gx_depth (xw_p (sx_depth u (nI 0)) 0 x y z) = nI (0 + 1) ∧ gx_workLevel (xw_p (sx_depth u (nI 0)) 0 x y z) 0 = x ∧ gx_workOne (xw_p (sx_depth u (nI 0)) 0 x y z) 0 = y ∧ gx_workTwo (xw_p (sx_depth u (nI 0)) 0 x y z) 0 = z := ⟨⟨by rw [bx_C_p, bx_C_dp], by rw [bx_D_p, bx_D_dp], by rw [bx_S_p, bx_S_dp], by rw [bx_M_p, bx_M_dp]⟩, gx_depth_p _ _ _ _ _, by rw [gx_workLevel_p, pk_us], by rw [gx_workOne_p, pk_us], by rw [gx_workTwo_p, pk_us]⟩
theorem xt_run {v : Nat} {F : List Nat} (hv : v < 4096) : ∀ k, k ≤ 6 → ∀ (e : Nat) (u : SX) (d n : Nat), k + e ≤ 6 → st_Ok (bx_S u) F → gx_depth u = nI (d + 1) → d + k < 16 → gx_workLevel u d = nI (2 ^ e * 2 ^ k) → gx_workOne u d = nI n → st_al F n → 6 - k ≤ dg_lv (st_nd (bx_S u) n) → ∃ (c : Nat) (u' : SX), c + 1 ≤ 2 * 2 ^ k ∧ rn_t v c (2 ^ e * cn_C (st_nd (bx_S u)) v k n) u u' ∧ gx_depth u' = nI d ∧ xw_B u u' d ∧ xt_K u u' := by
  intro k
  induction k with
  | zero =>
    intro hk e u d n hke S hd hdk e1 e2 hn ln
    have hl : dg_lv (st_nd (bx_S u) n) = 6 := by have := dg_le6 (st_W S) hn; omega
    refine ⟨1, sx_depth u (nI d), by decide, ?_, rfl, fun i _ => ⟨rfl, rfl, rfl, rfl, rfl⟩, ⟨rfl, rfl, rfl, rfl⟩⟩
    have := xt_leaf hv (by omega) hn u S hd e1 e2 hl
    have e3 : 2 ^ e * cn_C (st_nd (bx_S u)) v 0 n = if (dg_lo (st_nd (bx_S u) n) == v) = true then 2 ^ e * 2 ^ 0 else 0 := by
      show 2 ^ e * (if (dg_lo (st_nd (bx_S u) n) == v) = true then 1 else 0) = _
      by_cases z : (dg_lo (st_nd (bx_S u) n) == v) = true
      · rw [if_pos z, if_pos z]
      · rw [if_neg z, if_neg z, Nat.mul_zero]
    rw [e3]
    exact this
  | succ j ih =>
    intro hk e u d n hke S hd hdk e1 e2 hn ln
    have hp2 : 2 ^ (j + 1) = 2 * 2 ^ j := by rw [Nat.pow_succ]; omega
    have hpos : 0 < 2 ^ j := Nat.two_pow_pos j
    by_cases hl : dg_lv (st_nd (bx_S u) n) = 5 - j
    · have W := st_W S
      have hin := dg_inner W hn (by omega)
      have hw : 2 ^ e * 2 ^ (j + 1) ≤ 64 := by
        rw [← Nat.pow_add]
        exact Nat.pow_le_pow_right (n := 2) (j := 6) (by decide) (by omega)
      have r0 := xt_node (v := v) (by omega) (by omega) hn u S hd e1 e2 (by omega)
      have hw2 : 2 ^ e * 2 ^ (j + 1) / 2 = 2 ^ e * 2 ^ j := by
        rw [hp2, Nat.mul_left_comm, Nat.mul_div_cancel_left _ (by decide)]
      rw [hw2] at r0
      generalize hu1 : xw_p (xw_p (sx_depth u (nI d)) d (nI (2 ^ e * 2 ^ j)) (nI (dg_hi (st_nd (bx_S u) n))) (nI 0)) (d + 1) (nI (2 ^ e * 2 ^ j)) (nI (dg_lo (st_nd (bx_S u) n))) (nI 0) = u1 at r0
      have hq := xq_2 u d (nI (2 ^ e * 2 ^ j)) (nI (dg_hi (st_nd (bx_S u) n))) (nI 0) (nI (2 ^ e * 2 ^ j)) (nI (dg_lo (st_nd (bx_S u) n))) (nI 0)
      rw [hu1] at hq
      obtain ⟨q7, q3, ⟨q41, q42, _⟩, ⟨q51, q52, _⟩, q6⟩ := hq
      have q1 : bx_S u1 = bx_S u := q7.2.2.1
      have q4 := And.intro q41 q42
      have q5 := And.intro q51 q52
      obtain ⟨c1, u2, hc1, rn1, d2, B2, K2⟩ := ih (by omega) e u1 (d + 1) (dg_lo (st_nd (bx_S u) n)) (by omega) (by rw [q1]; exact S) q3 (by omega) q4.1 q4.2 hin.1 (by rw [q1]; omega)
      have q8 : bx_S u2 = bx_S u := K2.2.2.1.trans q1
      obtain ⟨c2, u3, hc2, rn2, d3, B3, K3⟩ := ih (by omega) e u2 d (dg_hi (st_nd (bx_S u) n)) (by omega) (by rw [q8]; exact S) d2 (by omega) ((B2 d (by omega)).1.trans q5.1) ((B2 d (by omega)).2.1.trans q5.2) hin.2.1 (by rw [q8]; omega)
      refine ⟨1 + c1 + c2, u3, by omega, ?_, d3, xw_B_t (xw_B_t q6 (xw_B_le B2 (by omega))) B3, xt_K_t (xt_K_t q7 K2) K3⟩
      have hr := rn_t_t (rn_t_t r0 rn1) rn2
      rw [q1, q8] at hr
      have hC : 2 ^ e * cn_C (st_nd (bx_S u)) v (j + 1) n = 0 + 2 ^ e * cn_C (st_nd (bx_S u)) v j (dg_lo (st_nd (bx_S u) n)) + 2 ^ e * cn_C (st_nd (bx_S u)) v j (dg_hi (st_nd (bx_S u) n)) := by
        rw [cn_C_s, Nat.mul_add]
        unfold dg_hf
        rw [if_pos hl, if_pos hl, if_neg (by decide), if_pos rfl, Nat.zero_add]
      rw [hC]
      exact hr
    · obtain ⟨c1, u2, hc1, rn1, d2, B2, K2⟩ := ih (by omega) (e + 1) u d n (by omega) S hd (by omega) (by rw [e1, hp2, Nat.pow_succ]; exact congrArg nI (by rw [Nat.mul_assoc])) e2 hn (by omega)
      refine ⟨c1, u2, by omega, ?_, d2, B2, K2⟩
      rw [cn_C_2 _ _ _ _ hl]
      rw [Nat.pow_succ, Nat.mul_assoc] at rn1
      exact rn1
/-- countOf -/
theorem xp_count {post : Int32 → SX → Prop} {v a n : Nat} : ∀ u : SX, lx_t post v n 0 0 (xw_p (sx_depth u (nI 0)) 0 (nI 64) (nI a) (nI 0)) → wpX_countOf post u (nI a) (nI v) := by
  rintro ⟨f_active, f_outPlace, f_outHeader, f_freeNode, f_freeCount, f_keptDiagram, f_depth, f_got, f_stamp, a_links, a_ruleCount, a_matches, a_actions, a_changes, a_states, a_places, a_headers, a_tables, a_treated, a_nodes, a_following, a_marked, a_bucket, a_now, a_next, a_layer, a_workLevel, a_workOne, a_workTwo, a_workPhase, a_workLow, a_memoStamp, a_memoOne, a_memoTwo, a_memoLevel, a_memoGot⟩ h2
  unfold wpX_countOf
  refine xp_pushI 0 (by decide) rfl ?_
  exact Exists.intro n h2
theorem lx_t_end {post : Int32 → SX → Prop} {v c x : Nat} (hc : c < 200) : ∀ u : SX, gx_depth u = nI 0 → post (nI x) u → lx_t post v 1 x c u := by
  rintro ⟨f_active, f_outPlace, f_outHeader, f_freeNode, f_freeCount, f_keptDiagram, f_depth, f_got, f_stamp, a_links, a_ruleCount, a_matches, a_actions, a_changes, a_states, a_places, a_headers, a_tables, a_treated, a_nodes, a_following, a_marked, a_bucket, a_now, a_next, a_layer, a_workLevel, a_workOne, a_workTwo, a_workPhase, a_workLow, a_memoStamp, a_memoOne, a_memoTwo, a_memoLevel, a_memoGot⟩ d' hp
  exact br_f (nI_ge (b := 200) (by omega) (by decide)) (br_t (by rw [d']; decide) hp)
theorem xd_count {a v : Nat} {f : Nat → Nat} {F : List Nat} (hv : v < 4096) (u : SX) (S : st_Ok (bx_S u) F) (ha : dg_R (bx_S u) F a f) : ∃ u' : SX, (∀ post : Int32 → SX → Prop, post (nI (cn_r 64 (fun h => f h == v))) u' → wpX_countOf post u (nI a) (nI v)) ∧ xt_K u u' := by
  obtain ⟨qK, qd, ql, qo, _⟩ := xq_c u (nI 64) (nI a) (nI 0)
  have hpc := fun (post : Int32 → SX → Prop) (n : Nat) => xp_count (post := post) (v := v) (a := a) (n := n) u
  generalize xw_p (sx_depth u (nI 0)) 0 (nI 64) (nI a) (nI 0) = u1 at qK qd ql qo hpc
  have q1 : bx_S u1 = bx_S u := qK.2.2.1
  obtain ⟨c, u', hc, rn, d', B', K'⟩ := xt_run (v := v) hv 6 (by omega) 0 u1 0 a (by omega) (by rw [q1]; exact S) qd (by omega) ql qo ha.1 (by omega)
  refine ⟨u', ?_, xt_K_t qK K'⟩
  intro post hp
  have hc' : c + 1 ≤ 128 := hc
  have e : 2 ^ 0 * cn_C (st_nd (bx_S u1)) v 6 a = cn_r 64 (fun h => f h == v) := by
    unfold cn_C
    rw [q1, Nat.pow_zero, Nat.one_mul, cn_tr]
    exact cn_r_cg _ _ _ (fun h hh => by rw [ha.2 h hh])
  rw [e] at rn
  exact hpc post _ (rn post 1 0 0 (by omega) (by rw [Nat.zero_add, Nat.zero_add]; exact lx_t_end (by omega) u' d' hp))
/-- walk -/
theorem xk_l {u : SX} {F : List Nat} {h : Nat} (hh : h < 64) (S : st_Ok (bx_S u) F) (post : Int32 → Prop) : ∀ k, k ≤ 6 → ∀ n, st_al F n → 6 - k ≤ dg_lv (st_nd (bx_S u) n) → post (nI (dg_ev (st_nd (bx_S u)) 6 n h)) → wX_walk_2 post (nI h) (gx_active u) (gx_outPlace u) (gx_outHeader u) (gx_freeNode u) (gx_freeCount u) (gx_keptDiagram u) (gx_depth u) (gx_got u) (gx_stamp u) (gx_links u) (gx_ruleCount u) (gx_matches u) (gx_actions u) (gx_changes u) (gx_states u) (gx_places u) (gx_headers u) (gx_tables u) (gx_treated u) (gx_nodes u) (gx_following u) (gx_marked u) (gx_bucket u) (gx_now u) (gx_next u) (gx_layer u) (gx_workLevel u) (gx_workOne u) (gx_workTwo u) (gx_workPhase u) (gx_workLow u) (gx_memoStamp u) (gx_memoOne u) (gx_memoTwo u) (gx_memoLevel u) (gx_memoGot u) (k + 1) (nI n) := by
  have W := st_W S
  intro k
  induction k with
  | zero =>
    intro _ n hn ln hp
    have hl : dg_lv (st_nd (bx_S u) n) = 6 := by have := dg_le6 W hn; omega
    unfold wX_walk_2
    refine xl_lv hn (gx_active u, gx_outPlace u, gx_outHeader u, gx_freeNode u, gx_freeCount u, gx_keptDiagram u, gx_depth u, gx_got u, gx_stamp u, gx_links u, gx_ruleCount u, gx_matches u, gx_actions u, gx_changes u, gx_states u, gx_places u, gx_headers u, gx_tables u, gx_treated u, gx_nodes u, gx_following u, gx_marked u, gx_bucket u, gx_now u, gx_next u, gx_layer u, gx_workLevel u, gx_workOne u, gx_workTwo u, gx_workPhase u, gx_workLow u, gx_memoStamp u, gx_memoOne u, gx_memoTwo u, gx_memoLevel u, gx_memoGot u) S ?_
    refine br_t ?_ (xl_lo hn (gx_active u, gx_outPlace u, gx_outHeader u, gx_freeNode u, gx_freeCount u, gx_keptDiagram u, gx_depth u, gx_got u, gx_stamp u, gx_links u, gx_ruleCount u, gx_matches u, gx_actions u, gx_changes u, gx_states u, gx_places u, gx_headers u, gx_tables u, gx_treated u, gx_nodes u, gx_following u, gx_marked u, gx_bucket u, gx_now u, gx_next u, gx_layer u, gx_workLevel u, gx_workOne u, gx_workTwo u, gx_workPhase u, gx_workLow u, gx_memoStamp u, gx_memoOne u, gx_memoTwo u, gx_memoLevel u, gx_memoGot u) S ?_)
    · show (6 : Int32) ≤ nI (dg_lv (st_nd (bx_S u) n))
      rw [hl]; decide
    · rw [dg_ev_leaf hl 6 h (by omega)] at hp
      exact hp
  | succ j ih =>
    intro hk n hn ln hp
    have h6 := dg_le6 W hn
    unfold wX_walk_2
    refine xl_lv hn (gx_active u, gx_outPlace u, gx_outHeader u, gx_freeNode u, gx_freeCount u, gx_keptDiagram u, gx_depth u, gx_got u, gx_stamp u, gx_links u, gx_ruleCount u, gx_matches u, gx_actions u, gx_changes u, gx_states u, gx_places u, gx_headers u, gx_tables u, gx_treated u, gx_nodes u, gx_following u, gx_marked u, gx_bucket u, gx_now u, gx_next u, gx_layer u, gx_workLevel u, gx_workOne u, gx_workTwo u, gx_workPhase u, gx_workLow u, gx_memoStamp u, gx_memoOne u, gx_memoTwo u, gx_memoLevel u, gx_memoGot u) S ?_
    refine pk_le 6 (dg_lv (st_nd (bx_S u) n)) (fun z => ?_) (fun z => ?_)
    · refine xl_lo hn (gx_active u, gx_outPlace u, gx_outHeader u, gx_freeNode u, gx_freeCount u, gx_keptDiagram u, gx_depth u, gx_got u, gx_stamp u, gx_links u, gx_ruleCount u, gx_matches u, gx_actions u, gx_changes u, gx_states u, gx_places u, gx_headers u, gx_tables u, gx_treated u, gx_nodes u, gx_following u, gx_marked u, gx_bucket u, gx_now u, gx_next u, gx_layer u, gx_workLevel u, gx_workOne u, gx_workTwo u, gx_workPhase u, gx_workLow u, gx_memoStamp u, gx_memoOne u, gx_memoTwo u, gx_memoLevel u, gx_memoGot u) S ?_
      rw [dg_ev_leaf (by omega) 6 h (by omega)] at hp
      exact hp
    refine xl_lv hn (gx_active u, gx_outPlace u, gx_outHeader u, gx_freeNode u, gx_freeCount u, gx_keptDiagram u, gx_depth u, gx_got u, gx_stamp u, gx_links u, gx_ruleCount u, gx_matches u, gx_actions u, gx_changes u, gx_states u, gx_places u, gx_headers u, gx_tables u, gx_treated u, gx_nodes u, gx_following u, gx_marked u, gx_bucket u, gx_now u, gx_next u, gx_layer u, gx_workLevel u, gx_workOne u, gx_workTwo u, gx_workPhase u, gx_workLow u, gx_memoStamp u, gx_memoOne u, gx_memoTwo u, gx_memoLevel u, gx_memoGot u) S ?_
    refine nm_r (nb_5 (L := dg_lv (st_nd (bx_S u) n)) (by omega)) ?_
    · have hin := dg_inner W hn z
      obtain ⟨i, hi, hli⟩ : ∃ i, i < 6 ∧ dg_lv (st_nd (bx_S u) n) = 5 - i := ⟨5 - dg_lv (st_nd (bx_S u) n), by omega, by omega⟩
      rw [dg_ev6_n W hn hi hli] at hp
      have e5 : 5 - dg_lv (st_nd (bx_S u) n) = i := by omega
      rw [e5]
      have hb := nb_bit0 (x := h) (k := i) (by omega) (by omega)
      unfold dg_hf at hp
      rw [if_pos hli] at hp
      refine br_c (fun y => ?_) (fun y => ?_)
      · refine xl_lo hn (gx_active u, gx_outPlace u, gx_outHeader u, gx_freeNode u, gx_freeCount u, gx_keptDiagram u, gx_depth u, gx_got u, gx_stamp u, gx_links u, gx_ruleCount u, gx_matches u, gx_actions u, gx_changes u, gx_states u, gx_places u, gx_headers u, gx_tables u, gx_treated u, gx_nodes u, gx_following u, gx_marked u, gx_bucket u, gx_now u, gx_next u, gx_layer u, gx_workLevel u, gx_workOne u, gx_workTwo u, gx_workPhase u, gx_workLow u, gx_memoStamp u, gx_memoOne u, gx_memoTwo u, gx_memoLevel u, gx_memoGot u) S ?_
        rw [hb.mp y, if_neg (by decide)] at hp
        exact ih (by omega) (dg_lo (st_nd (bx_S u) n)) hin.1 (by omega) hp
      · refine xl_hi hn (gx_active u, gx_outPlace u, gx_outHeader u, gx_freeNode u, gx_freeCount u, gx_keptDiagram u, gx_depth u, gx_got u, gx_stamp u, gx_links u, gx_ruleCount u, gx_matches u, gx_actions u, gx_changes u, gx_states u, gx_places u, gx_headers u, gx_tables u, gx_treated u, gx_nodes u, gx_following u, gx_marked u, gx_bucket u, gx_now u, gx_next u, gx_layer u, gx_workLevel u, gx_workOne u, gx_workTwo u, gx_workPhase u, gx_workLow u, gx_memoStamp u, gx_memoOne u, gx_memoTwo u, gx_memoLevel u, gx_memoGot u) S ?_
        have y' : h.testBit i = true := by
          cases q : h.testBit i
          · exact absurd (hb.mpr q) y
          · rfl
        rw [if_pos y'] at hp
        exact ih (by omega) (dg_hi (st_nd (bx_S u) n)) hin.2.1 (by omega) hp
theorem xd_walk {a h : Nat} {f : Nat → Nat} {F : List Nat} (hh : h < 64) (post : Int32 → Prop) : ∀ u : SX, st_Ok (bx_S u) F → dg_R (bx_S u) F a f → post (nI (f h)) → wpX_walk post u (nI a) (nI h) := by
  rintro ⟨f_active, f_outPlace, f_outHeader, f_freeNode, f_freeCount, f_keptDiagram, f_depth, f_got, f_stamp, a_links, a_ruleCount, a_matches, a_actions, a_changes, a_states, a_places, a_headers, a_tables, a_treated, a_nodes, a_following, a_marked, a_bucket, a_now, a_next, a_layer, a_workLevel, a_workOne, a_workTwo, a_workPhase, a_workLow, a_memoStamp, a_memoOne, a_memoTwo, a_memoLevel, a_memoGot⟩ S ha hp
  refine Exists.intro 7 (xk_l (u := (f_active, f_outPlace, f_outHeader, f_freeNode, f_freeCount, f_keptDiagram, f_depth, f_got, f_stamp, a_links, a_ruleCount, a_matches, a_actions, a_changes, a_states, a_places, a_headers, a_tables, a_treated, a_nodes, a_following, a_marked, a_bucket, a_now, a_next, a_layer, a_workLevel, a_workOne, a_workTwo, a_workPhase, a_workLow, a_memoStamp, a_memoOne, a_memoTwo, a_memoLevel, a_memoGot)) hh S post 6 (by omega) a ha.1 (by omega) ?_)
  rw [ha.2 h hh]
  exact hp
end
section
/-! differences of two diagrams -/
def cn_D (nd : Nat → Nat) (k a b : Nat) : Nat := cn_t k (fun h => !(dg_ev nd k a h == dg_ev nd k b h))
theorem cn_D_s (nd : Nat → Nat) (j a b : Nat) : cn_D nd (j + 1) a b = cn_D nd j (dg_hf nd a (5 - j) false) (dg_hf nd b (5 - j) false) + cn_D nd j (dg_hf nd a (5 - j) true) (dg_hf nd b (5 - j) true) := by
  unfold cn_D
  show cn_t j (fun h => !(dg_ev nd (j + 1) a h == dg_ev nd (j + 1) b h)) + cn_t j (fun h => !(dg_ev nd (j + 1) a (2 ^ j + h) == dg_ev nd (j + 1) b (2 ^ j + h))) = _
  rw [cn_t_cg j _ (fun h => !(dg_ev nd j (dg_hf nd a (5 - j) false) h == dg_ev nd j (dg_hf nd b (5 - j) false) h)) (fun h hh => by rw [dg_ev_s, dg_ev_s, Nat.testBit_lt_two_pow hh]), cn_t_cg j (fun h => !(dg_ev nd (j + 1) a (2 ^ j + h) == dg_ev nd (j + 1) b (2 ^ j + h))) (fun h => !(dg_ev nd j (dg_hf nd a (5 - j) true) h == dg_ev nd j (dg_hf nd b (5 - j) true) h)) (fun h hh => by
    have e : (2 ^ j + h).testBit j = true := by rw [Nat.testBit_two_pow_add_eq, Nat.testBit_lt_two_pow hh]; rfl
    rw [dg_ev_s, dg_ev_s, e, dg_ev_bits nd j _ _ h (fun i hi => Nat.testBit_two_pow_add_gt hi h), dg_ev_bits nd j (dg_hf nd b (5 - j) true) _ h (fun i hi => Nat.testBit_two_pow_add_gt hi h)])]
theorem cn_D_2 (nd : Nat → Nat) (j a b : Nat) (ha : dg_lv (nd a) ≠ 5 - j) (hb : dg_lv (nd b) ≠ 5 - j) : cn_D nd (j + 1) a b = 2 * cn_D nd j a b := by
  have e : ∀ z, dg_hf nd a (5 - j) z = a := fun z => by unfold dg_hf; rw [if_neg ha]
  have e' : ∀ z, dg_hf nd b (5 - j) z = b := fun z => by unfold dg_hf; rw [if_neg hb]
  rw [cn_D_s, e, e, e', e']; omega
theorem cn_t_0 : ∀ k, cn_t k (fun _ => false) = 0 := by
  intro k
  induction k with
  | zero => rfl
  | succ k ih => show cn_t k (fun _ => false) + cn_t k (fun _ => false) = 0; rw [ih]
theorem cn_D_0 (nd : Nat → Nat) (k a : Nat) : cn_D nd k a a = 0 := by
  unfold cn_D
  rw [cn_t_cg k _ (fun _ => false) (fun h _ => by rw [beq_self_eq_true]; rfl)]
  exact cn_t_0 k
theorem xv_split {post : SX → Prop} {d L a b : Nat} {w : Int32} {F : List Nat} (hd : d + 1 < 16) (hL : L < 7) (ha : st_al F a) (hb : st_al F b) : ∀ u : SX, st_Ok (bx_S u) F → gx_depth u = nI d → post (xw_p (xw_p u d w (nI (dg_hf (st_nd (bx_S u)) a L false)) (nI (dg_hf (st_nd (bx_S u)) b L false))) (d + 1) w (nI (dg_hf (st_nd (bx_S u)) a L true)) (nI (dg_hf (st_nd (bx_S u)) b L true))) → wpX_split post u w (nI L) (nI a) (nI b) := by
  intro u S e hp
  have k0a : ∀ (u' : SX), bx_S u' = bx_S u → ∀ post : Int32 → Prop, post (nI (dg_hf (st_nd (bx_S u)) a L false)) → wpX_half post u' (nI a) (nI L) (nI 0) := fun u' q post h => xl_hf (b := false) ha hL rfl u' (by rw [q]; exact S) (by rw [q]; exact h)
  have k0b : ∀ (u' : SX), bx_S u' = bx_S u → ∀ post : Int32 → Prop, post (nI (dg_hf (st_nd (bx_S u)) b L false)) → wpX_half post u' (nI b) (nI L) (nI 0) := fun u' q post h => xl_hf (b := false) hb hL rfl u' (by rw [q]; exact S) (by rw [q]; exact h)
  have k1a : ∀ (u' : SX), bx_S u' = bx_S u → ∀ post : Int32 → Prop, post (nI (dg_hf (st_nd (bx_S u)) a L true)) → wpX_half post u' (nI a) (nI L) (nI 1) := fun u' q post h => xl_hf (b := true) ha hL rfl u' (by rw [q]; exact S) (by rw [q]; exact h)
  have k1b : ∀ (u' : SX), bx_S u' = bx_S u → ∀ post : Int32 → Prop, post (nI (dg_hf (st_nd (bx_S u)) b L true)) → wpX_half post u' (nI b) (nI L) (nI 1) := fun u' q post h => xl_hf (b := true) hb hL rfl u' (by rw [q]; exact S) (by rw [q]; exact h)
  have k1a' := fun x y z => k1a (xw_p u d x y z) (bx_S_p u d x y z)
  have k1b' := fun x y z => k1b (xw_p u d x y z) (bx_S_p u d x y z)
  have k0a' := k0a u rfl
  have k0b' := k0b u rfl
  clear k0a k0b k1a k1b S
  generalize dg_hf (st_nd (bx_S u)) a L false = a0 at k0a' hp
  generalize dg_hf (st_nd (bx_S u)) b L false = b0 at k0b' hp
  generalize dg_hf (st_nd (bx_S u)) a L true = a1 at k1a' hp
  generalize dg_hf (st_nd (bx_S u)) b L true = b1 at k1b' hp
  obtain ⟨f_active, f_outPlace, f_outHeader, f_freeNode, f_freeCount, f_keptDiagram, f_depth, f_got, f_stamp, a_links, a_ruleCount, a_matches, a_actions, a_changes, a_states, a_places, a_headers, a_tables, a_treated, a_nodes, a_following, a_marked, a_bucket, a_now, a_next, a_layer, a_workLevel, a_workOne, a_workTwo, a_workPhase, a_workLow, a_memoStamp, a_memoOne, a_memoTwo, a_memoLevel, a_memoGot⟩ := u
  have e' : f_depth = nI d := e
  show ∃ n3 : Nat, wX_split_3 post w (nI L) (nI a) (nI b) n3 0 f_active f_outPlace f_outHeader f_freeNode f_freeCount f_keptDiagram f_depth f_got f_stamp a_links a_ruleCount a_matches a_actions a_changes a_states a_places a_headers a_tables a_treated a_nodes a_following a_marked a_bucket a_now a_next a_layer a_workLevel a_workOne a_workTwo a_workPhase a_workLow a_memoStamp a_memoOne a_memoTwo a_memoLevel a_memoGot
  refine ⟨3, br_f (by decide) ?_⟩
  refine k0a' _ ?_
  refine k0b' _ ?_
  refine xp_pushI d (by omega) e' ?_
  refine nm_r (e' := nI 1) rfl ?_
  refine br_f (by decide) ?_
  refine k1a' w (nI a0) (nI b0) _ ?_
  refine k1b' w (nI a0) (nI b0) _ ?_
  refine xp_pushI (d + 1) hd rfl ?_
  refine nm_r (e' := nI 2) rfl ?_
  exact br_t (by decide) hp
def lx_v (post : Int32 → SX → Prop) (n x3 x4 : Nat) (u : SX) : Prop := wX_differences_18 post n (nI x3) (nI x4) (gx_active u) (gx_outPlace u) (gx_outHeader u) (gx_freeNode u) (gx_freeCount u) (gx_keptDiagram u) (gx_depth u) (gx_got u) (gx_stamp u) (gx_links u) (gx_ruleCount u) (gx_matches u) (gx_actions u) (gx_changes u) (gx_states u) (gx_places u) (gx_headers u) (gx_tables u) (gx_treated u) (gx_nodes u) (gx_following u) (gx_marked u) (gx_bucket u) (gx_now u) (gx_next u) (gx_layer u) (gx_workLevel u) (gx_workOne u) (gx_workTwo u) (gx_workPhase u) (gx_workLow u) (gx_memoStamp u) (gx_memoOne u) (gx_memoTwo u) (gx_memoLevel u) (gx_memoGot u)
def rn_v (c t : Nat) (u u' : SX) : Prop := ∀ (post : Int32 → SX → Prop) (n x3 x4 : Nat), x4 + c ≤ 200 → lx_v post n (x3 + t) (x4 + c) u' → lx_v post (n + c) x3 x4 u
theorem rn_v_t {c c' t t' : Nat} {u u1 u2 : SX} (h1 : rn_v c t u u1) (h2 : rn_v c' t' u1 u2) : rn_v (c + c') (t + t') u u2 := by
  intro post n x3 x4 hx H
  have h3 := h2 post n (x3 + t) (x4 + c) (by omega) (by rw [Nat.add_assoc, Nat.add_assoc]; exact H)
  have h4 := h1 post (n + c') x3 x4 (by omega) h3
  rw [show n + (c + c') = n + c' + c by omega]
  exact h4
def mn_l (nd : Nat → Nat) (a b : Nat) : Nat := if dg_lv (nd b) ≤ dg_lv (nd a) then dg_lv (nd b) else dg_lv (nd a)
theorem xv_open {post : Int32 → SX → Prop} {m x3 x4 d w a b : Nat} {F : List Nat} (hd : d < 16) (hx : x4 + 1 ≤ 200) (ha : st_al F a) (hb : st_al F b) : ∀ u : SX, st_Ok (bx_S u) F → gx_depth u = nI (d + 1) → gx_workLevel u d = nI w → gx_workOne u d = nI a → gx_workTwo u d = nI b → wX_differences_106 post (wX_differences_18 post m) (nI x3) (nI x4) (nI w) (nI a) (nI b) (nI (mn_l (st_nd (bx_S u)) a b)) (gx_active (sx_depth u (nI d))) (gx_outPlace (sx_depth u (nI d))) (gx_outHeader (sx_depth u (nI d))) (gx_freeNode (sx_depth u (nI d))) (gx_freeCount (sx_depth u (nI d))) (gx_keptDiagram (sx_depth u (nI d))) (gx_depth (sx_depth u (nI d))) (gx_got (sx_depth u (nI d))) (gx_stamp (sx_depth u (nI d))) (gx_links (sx_depth u (nI d))) (gx_ruleCount (sx_depth u (nI d))) (gx_matches (sx_depth u (nI d))) (gx_actions (sx_depth u (nI d))) (gx_changes (sx_depth u (nI d))) (gx_states (sx_depth u (nI d))) (gx_places (sx_depth u (nI d))) (gx_headers (sx_depth u (nI d))) (gx_tables (sx_depth u (nI d))) (gx_treated (sx_depth u (nI d))) (gx_nodes (sx_depth u (nI d))) (gx_following (sx_depth u (nI d))) (gx_marked (sx_depth u (nI d))) (gx_bucket (sx_depth u (nI d))) (gx_now (sx_depth u (nI d))) (gx_next (sx_depth u (nI d))) (gx_layer (sx_depth u (nI d))) (gx_workLevel (sx_depth u (nI d))) (gx_workOne (sx_depth u (nI d))) (gx_workTwo (sx_depth u (nI d))) (gx_workPhase (sx_depth u (nI d))) (gx_workLow (sx_depth u (nI d))) (gx_memoStamp (sx_depth u (nI d))) (gx_memoOne (sx_depth u (nI d))) (gx_memoTwo (sx_depth u (nI d))) (gx_memoLevel (sx_depth u (nI d))) (gx_memoGot (sx_depth u (nI d))) → lx_v post (m + 1) x3 x4 u := by
  intro u S e1 e2 e3 e4 H
  have S' : st_Ok (bx_S (sx_depth u (nI d))) F := S
  have la := dg_le6 (st_W S) ha
  have lb := dg_le6 (st_W S) hb
  have ka : ∀ post : Int32 → Prop, post (nI (dg_lv (st_nd (bx_S u) a))) → wpX_levelOf post (sx_depth u (nI d)) (nI a) := fun post hp => xl_lv ha _ S' hp
  have kb : ∀ post : Int32 → Prop, post (nI (dg_lv (st_nd (bx_S u) b))) → wpX_levelOf post (sx_depth u (nI d)) (nI b) := fun post hp => xl_lv hb _ S' hp
  unfold mn_l at H
  generalize dg_lv (st_nd (bx_S u) a) = p at ka la H
  generalize dg_lv (st_nd (bx_S u) b) = q at kb lb H
  obtain ⟨f_active, f_outPlace, f_outHeader, f_freeNode, f_freeCount, f_keptDiagram, f_depth, f_got, f_stamp, a_links, a_ruleCount, a_matches, a_actions, a_changes, a_states, a_places, a_headers, a_tables, a_treated, a_nodes, a_following, a_marked, a_bucket, a_now, a_next, a_layer, a_workLevel, a_workOne, a_workTwo, a_workPhase, a_workLow, a_memoStamp, a_memoOne, a_memoTwo, a_memoLevel, a_memoGot⟩ := u
  have hvd : vp_in (nI d) 16 := vp_in_nI hd (by decide)
  have hc : (nI d).toNatClampNeg = d := nI_clamp (by omega)
  have ed : f_depth - 1 = nI d := by rw [show f_depth = nI (d + 1) from e1, nI_pred]
  show wX_differences_18 post (m + 1) (nI x3) (nI x4) f_active f_outPlace f_outHeader f_freeNode f_freeCount f_keptDiagram f_depth f_got f_stamp a_links a_ruleCount a_matches a_actions a_changes a_states a_places a_headers a_tables a_treated a_nodes a_following a_marked a_bucket a_now a_next a_layer a_workLevel a_workOne a_workTwo a_workPhase a_workLow a_memoStamp a_memoOne a_memoTwo a_memoLevel a_memoGot
  refine br_f (nI_ge (b := 200) (by omega) (by decide)) (br_f (by rw [show f_depth = nI (d + 1) from e1]; exact nI_nle (by omega) (by omega)) ?_)
  refine nm_r ed (And.intro hvd (nm_r (e' := nI w) (by rw [hc]; exact e2) (And.intro hvd (nm_r (e' := nI a) (by rw [hc]; exact e3) (And.intro hvd (nm_r (e' := nI b) (by rw [hc]; exact e4) ?_))))))
  refine ka _ ?_
  refine kb _ ?_
  refine pk_le q p (fun z => ?_) (fun z => ?_)
  · refine kb _ ?_
    rw [if_pos z] at H
    exact H
  · refine ka _ ?_
    rw [if_neg (by omega)] at H
    exact H
theorem xv_eq {d w a : Nat} {F : List Nat} (hd : d < 16) (ha : st_al F a) (u : SX) (S : st_Ok (bx_S u) F) (e1 : gx_depth u = nI (d + 1)) (e2 : gx_workLevel u d = nI w) (e3 : gx_workOne u d = nI a) (e4 : gx_workTwo u d = nI a) : rn_v 1 0 u (sx_depth u (nI d)) := by
  intro post m x3 x4 hx H
  exact xv_open hd hx ha ha u S e1 e2 e3 e4 (br_t rfl (br_t rfl (nm_r (nI_1 x4) H)))
theorem xv_leaf {d w a b : Nat} {F : List Nat} (hd : d < 16) (ha : st_al F a) (hb : st_al F b) (hne : a ≠ b) (u : SX) (S : st_Ok (bx_S u) F) (e1 : gx_depth u = nI (d + 1)) (e2 : gx_workLevel u d = nI w) (e3 : gx_workOne u d = nI a) (e4 : gx_workTwo u d = nI b) (hl : mn_l (st_nd (bx_S u)) a b = 6) : rn_v 1 w u (sx_depth u (nI d)) := by
  intro post m x3 x4 hx H
  have h4 := ha.1
  have h5 := hb.1
  refine xv_open hd hx ha hb u S e1 e2 e3 e4 (br_f (nb_ne (by omega) (by omega) hne) (br_t (congrArg nI hl) (nm_r (nI_add x3 w) (nm_r (nI_1 x4) H))))
theorem xv_sp {d w a b L : Nat} {F : List Nat} (hd : d + 1 < 16) (hw : w < 2 ^ 31) (ha : st_al F a) (hb : st_al F b) (hne : a ≠ b) (u : SX) (S : st_Ok (bx_S u) F) (e1 : gx_depth u = nI (d + 1)) (e2 : gx_workLevel u d = nI w) (e3 : gx_workOne u d = nI a) (e4 : gx_workTwo u d = nI b) (hl : mn_l (st_nd (bx_S u)) a b = L) (hL : L < 6) : rn_v 1 0 u (xw_p (xw_p (sx_depth u (nI d)) d (nI (w / 2)) (nI (dg_hf (st_nd (bx_S u)) a L false)) (nI (dg_hf (st_nd (bx_S u)) b L false))) (d + 1) (nI (w / 2)) (nI (dg_hf (st_nd (bx_S u)) a L true)) (nI (dg_hf (st_nd (bx_S u)) b L true))) := by
  intro post m x3 x4 hx H
  have h4 := ha.1
  have h5 := hb.1
  have hn : ¬ nI a = nI b := nb_ne (by omega) (by omega) hne
  refine xv_open (by omega) hx ha hb u S e1 e2 e3 e4 (br_f hn (br_f (by rw [hl]; exact nb_ne (b := 6) (by omega) (by decide) (by omega)) (br_f hn ?_)))
  rw [nb_shr1 hw, hl]
  refine xv_split (d := d) hd (by omega) ha hb (sx_depth u (nI d)) S rfl ?_
  rw [bx_S_dp]
  generalize xw_p (xw_p (sx_depth u (nI d)) d (nI (w / 2)) (nI (dg_hf (st_nd (bx_S u)) a L false)) (nI (dg_hf (st_nd (bx_S u)) b L false))) (d + 1) (nI (w / 2)) (nI (dg_hf (st_nd (bx_S u)) a L true)) (nI (dg_hf (st_nd (bx_S u)) b L true)) = u2 at H ⊢
  obtain ⟨f_active, f_outPlace, f_outHeader, f_freeNode, f_freeCount, f_keptDiagram, f_depth, f_got, f_stamp, a_links, a_ruleCount, a_matches, a_actions, a_changes, a_states, a_places, a_headers, a_tables, a_treated, a_nodes, a_following, a_marked, a_bucket, a_now, a_next, a_layer, a_workLevel, a_workOne, a_workTwo, a_workPhase, a_workLow, a_memoStamp, a_memoOne, a_memoTwo, a_memoLevel, a_memoGot⟩ := u2
  exact nm_r (nI_1 x4) H
theorem xv_run {F : List Nat} : ∀ k, k ≤ 6 → ∀ (e : Nat) (u : SX) (d a b : Nat), k + e ≤ 6 → st_Ok (bx_S u) F → gx_depth u = nI (d + 1) → d + k < 16 → gx_workLevel u d = nI (2 ^ e * 2 ^ k) → gx_workOne u d = nI a → gx_workTwo u d = nI b → st_al F a → st_al F b → 6 - k ≤ dg_lv (st_nd (bx_S u) a) → 6 - k ≤ dg_lv (st_nd (bx_S u) b) → ∃ (c : Nat) (u' : SX), c + 1 ≤ 2 * 2 ^ k ∧ rn_v c (2 ^ e * cn_D (st_nd (bx_S u)) k a b) u u' ∧ gx_depth u' = nI d ∧ xw_B u u' d ∧ xt_K u u' := by
  intro k
  induction k with
  | zero =>
    intro hk e u d a b hke S hd hdk e1 e2 e3 ha hb la lb
    have W := st_W S
    have h1 := dg_leaf W ha (by omega)
    have h2 := dg_leaf W hb (by omega)
    refine ⟨1, sx_depth u (nI d), by decide, ?_, rfl, fun i _ => ⟨rfl, rfl, rfl, rfl, rfl⟩, ⟨rfl, rfl, rfl, rfl⟩⟩
    by_cases hne : a = b
    · subst hne
      rw [cn_D_0, Nat.mul_zero]
      exact xv_eq (by omega) ha u S hd e1 e2 e3
    · have hv : dg_lo (st_nd (bx_S u) a) ≠ dg_lo (st_nd (bx_S u) b) := fun z => hne (st_U S a b ha hb (dg_inj (by omega) z (by omega)))
      have hD : cn_D (st_nd (bx_S u)) 0 a b = 1 := by
        show (if (!(dg_lo (st_nd (bx_S u) a) == dg_lo (st_nd (bx_S u) b))) = true then 1 else 0) = 1
        rw [show (dg_lo (st_nd (bx_S u) a) == dg_lo (st_nd (bx_S u) b)) = false from by rw [beq_eq_false_iff_ne]; exact hv]
        rfl
      rw [hD, ← Nat.pow_zero 2]
      exact xv_leaf (by omega) ha hb hne u S hd e1 e2 e3 (by unfold mn_l; rw [h1.1, h2.1]; rfl)
  | succ j ih =>
    intro hk e u d a b hke S hd hdk e1 e2 e3 ha hb la lb
    have hp2 : 2 ^ (j + 1) = 2 * 2 ^ j := by rw [Nat.pow_succ]; omega
    have hpos : 0 < 2 ^ j := Nat.two_pow_pos j
    by_cases hne : a = b
    · subst hne
      refine ⟨1, sx_depth u (nI d), by omega, ?_, rfl, fun i _ => ⟨rfl, rfl, rfl, rfl, rfl⟩, ⟨rfl, rfl, rfl, rfl⟩⟩
      rw [cn_D_0, Nat.mul_zero]
      exact xv_eq (by omega) ha u S hd e1 e2 e3
    · by_cases hl : mn_l (st_nd (bx_S u)) a b = 5 - j
      · have W := st_W S
        have hw : 2 ^ e * 2 ^ (j + 1) ≤ 64 := by
          rw [← Nat.pow_add]
          exact Nat.pow_le_pow_right (n := 2) (j := 6) (by decide) (by omega)
        have r0 := xv_sp (by omega) (by omega) ha hb hne u S hd e1 e2 e3 hl (by omega)
        have hw2 : 2 ^ e * 2 ^ (j + 1) / 2 = 2 ^ e * 2 ^ j := by
          rw [hp2, Nat.mul_left_comm, Nat.mul_div_cancel_left _ (by decide)]
        rw [hw2] at r0
        generalize hu1 : xw_p (xw_p (sx_depth u (nI d)) d (nI (2 ^ e * 2 ^ j)) (nI (dg_hf (st_nd (bx_S u)) a (5 - j) false)) (nI (dg_hf (st_nd (bx_S u)) b (5 - j) false))) (d + 1) (nI (2 ^ e * 2 ^ j)) (nI (dg_hf (st_nd (bx_S u)) a (5 - j) true)) (nI (dg_hf (st_nd (bx_S u)) b (5 - j) true)) = u1 at r0
        have hq := xq_2 u d (nI (2 ^ e * 2 ^ j)) (nI (dg_hf (st_nd (bx_S u)) a (5 - j) false)) (nI (dg_hf (st_nd (bx_S u)) b (5 - j) false)) (nI (2 ^ e * 2 ^ j)) (nI (dg_hf (st_nd (bx_S u)) a (5 - j) true)) (nI (dg_hf (st_nd (bx_S u)) b (5 - j) true))
        rw [hu1] at hq
        obtain ⟨q7, q3, q4, q5, q6⟩ := hq
        have q1 : bx_S u1 = bx_S u := q7.2.2.1
        have al := fun z => dg_hf_al W ha (L := 5 - j) (by omega) z
        have bl := fun z => dg_hf_al W hb (L := 5 - j) (by omega) z
        have t1 := dg_hf_lv W ha (L := 5 - j) (by omega) true (by omega)
        have t2 := dg_hf_lv W hb (L := 5 - j) (by omega) true (by omega)
        have t3 := dg_hf_lv W ha (L := 5 - j) (by omega) false (by omega)
        have t4 := dg_hf_lv W hb (L := 5 - j) (by omega) false (by omega)
        obtain ⟨c1, u2, hc1, rn1, d2, B2, K2⟩ := ih (by omega) e u1 (d + 1) _ _ (by omega) (by rw [q1]; exact S) q3 (by omega) q4.1 q4.2.1 q4.2.2 (al true) (bl true) (by rw [q1]; omega) (by rw [q1]; omega)
        have q8 : bx_S u2 = bx_S u := K2.2.2.1.trans q1
        have B2d := B2 d (by omega)
        obtain ⟨c2, u3, hc2, rn2, d3, B3, K3⟩ := ih (by omega) e u2 d _ _ (by omega) (by rw [q8]; exact S) d2 (by omega) (B2d.1.trans q5.1) (B2d.2.1.trans q5.2.1) (B2d.2.2.1.trans q5.2.2) (al false) (bl false) (by rw [q8]; omega) (by rw [q8]; omega)
        refine ⟨1 + c1 + c2, u3, by omega, ?_, d3, xw_B_t (xw_B_t q6 (xw_B_le B2 (by omega))) B3, xt_K_t (xt_K_t q7 K2) K3⟩
        have hr := rn_v_t (rn_v_t r0 rn1) rn2
        rw [q1, q8] at hr
        have hC : 2 ^ e * cn_D (st_nd (bx_S u)) (j + 1) a b = 0 + 2 ^ e * cn_D (st_nd (bx_S u)) j (dg_hf (st_nd (bx_S u)) a (5 - j) true) (dg_hf (st_nd (bx_S u)) b (5 - j) true) + 2 ^ e * cn_D (st_nd (bx_S u)) j (dg_hf (st_nd (bx_S u)) a (5 - j) false) (dg_hf (st_nd (bx_S u)) b (5 - j) false) := by
          rw [cn_D_s, Nat.mul_add]; omega
        rw [hC]
        exact hr
      · have hla : dg_lv (st_nd (bx_S u) a) ≠ 5 - j := by
          intro z; apply hl; unfold mn_l
          by_cases y : dg_lv (st_nd (bx_S u) b) ≤ dg_lv (st_nd (bx_S u) a)
          · rw [if_pos y]; omega
          · rw [if_neg y]; exact z
        have hlb : dg_lv (st_nd (bx_S u) b) ≠ 5 - j := by
          intro z; apply hl; unfold mn_l
          by_cases y : dg_lv (st_nd (bx_S u) b) ≤ dg_lv (st_nd (bx_S u) a)
          · rw [if_pos y]; exact z
          · rw [if_neg y]; omega
        obtain ⟨c1, u2, hc1, rn1, d2, B2, K2⟩ := ih (by omega) (e + 1) u d a b (by omega) S hd (by omega) (by rw [e1, hp2, Nat.pow_succ]; exact congrArg nI (by rw [Nat.mul_assoc])) e2 e3 ha hb (by omega) (by omega)
        refine ⟨c1, u2, by omega, ?_, d2, B2, K2⟩
        rw [cn_D_2 _ _ _ _ hla hlb]
        rw [Nat.pow_succ, Nat.mul_assoc] at rn1
        exact rn1
/-- differences -/
theorem xp_diff {post : Int32 → SX → Prop} {a b n : Nat} : ∀ u : SX, lx_v post n 0 0 (xw_p (sx_depth u (nI 0)) 0 (nI 64) (nI a) (nI b)) → wpX_differences post u (nI a) (nI b) := by
  rintro ⟨f_active, f_outPlace, f_outHeader, f_freeNode, f_freeCount, f_keptDiagram, f_depth, f_got, f_stamp, a_links, a_ruleCount, a_matches, a_actions, a_changes, a_states, a_places, a_headers, a_tables, a_treated, a_nodes, a_following, a_marked, a_bucket, a_now, a_next, a_layer, a_workLevel, a_workOne, a_workTwo, a_workPhase, a_workLow, a_memoStamp, a_memoOne, a_memoTwo, a_memoLevel, a_memoGot⟩ h2
  unfold wpX_differences
  refine xp_pushI 0 (by decide) rfl ?_
  exact Exists.intro n h2
theorem lx_v_end {post : Int32 → SX → Prop} {c x : Nat} (hc : c < 200) : ∀ u : SX, gx_depth u = nI 0 → post (nI x) u → lx_v post 1 x c u := by
  rintro ⟨f_active, f_outPlace, f_outHeader, f_freeNode, f_freeCount, f_keptDiagram, f_depth, f_got, f_stamp, a_links, a_ruleCount, a_matches, a_actions, a_changes, a_states, a_places, a_headers, a_tables, a_treated, a_nodes, a_following, a_marked, a_bucket, a_now, a_next, a_layer, a_workLevel, a_workOne, a_workTwo, a_workPhase, a_workLow, a_memoStamp, a_memoOne, a_memoTwo, a_memoLevel, a_memoGot⟩ d' hp
  exact br_f (nI_ge (b := 200) (by omega) (by decide)) (br_t (by rw [d']; decide) hp)
theorem xd_diff {a b : Nat} {f g : Nat → Nat} {F : List Nat} (u : SX) (S : st_Ok (bx_S u) F) (ha : dg_R (bx_S u) F a f) (hb : dg_R (bx_S u) F b g) : ∃ u' : SX, (∀ post : Int32 → SX → Prop, post (nI (cn_r 64 (fun h => !(f h == g h)))) u' → wpX_differences post u (nI a) (nI b)) ∧ xt_K u u' := by
  obtain ⟨qK, qd, ql, qo, qt⟩ := xq_c u (nI 64) (nI a) (nI b)
  have hpc := fun (post : Int32 → SX → Prop) (n : Nat) => xp_diff (post := post) (a := a) (b := b) (n := n) u
  generalize xw_p (sx_depth u (nI 0)) 0 (nI 64) (nI a) (nI b) = u1 at qK qd ql qo qt hpc
  have q1 : bx_S u1 = bx_S u := qK.2.2.1
  obtain ⟨c, u', hc, rn, d', B', K'⟩ := xv_run 6 (by omega) 0 u1 0 a b (by omega) (by rw [q1]; exact S) qd (by omega) ql qo qt ha.1 hb.1 (by omega) (by omega)
  refine ⟨u', ?_, xt_K_t qK K'⟩
  intro post hp
  have hc' : c + 1 ≤ 128 := hc
  have e : 2 ^ 0 * cn_D (st_nd (bx_S u1)) 6 a b = cn_r 64 (fun h => !(f h == g h)) := by
    unfold cn_D
    rw [q1, Nat.pow_zero, Nat.one_mul, cn_tr]
    exact cn_r_cg _ _ _ (fun h hh => by rw [ha.2 h hh, hb.2 h hh])
  rw [e] at rn
  exact hpc post _ (rn post 1 0 0 (by omega) (by rw [Nat.zero_add, Nat.zero_add]; exact lx_v_end (by omega) u' d' hp))
end
section
/-! reset -/
theorem xz_24 {post : SX → Prop} (u : SX) (hp : ∀ fl : Nat → Int32, (∀ j, j < 4096 → fl j = if j + 1 < 4096 then nI (j + 1) else -1) → post (gx_active u, gx_outPlace u, gx_outHeader u, 0, 4096, -1, gx_depth u, gx_got u, gx_stamp u, gx_links u, gx_ruleCount u, gx_matches u, gx_actions u, gx_changes u, gx_states u, gx_places u, gx_headers u, gx_tables u, gx_treated u, gx_nodes u, fl, gx_marked u, gx_bucket u, gx_now u, gx_next u, gx_layer u, gx_workLevel u, gx_workOne u, gx_workTwo u, gx_workPhase u, gx_workLow u, gx_memoStamp u, gx_memoOne u, gx_memoTwo u, gx_memoLevel u, gx_memoGot u)) : ∀ d i, i + d = 4096 → ∀ fl : Nat → Int32, (∀ j, j < i → fl j = if j + 1 < 4096 then nI (j + 1) else -1) → wX_reset_24 post (gx_active u) (gx_outPlace u) (gx_outHeader u) (gx_freeNode u) (gx_freeCount u) (gx_keptDiagram u) (gx_depth u) (gx_got u) (gx_stamp u) (d + 1) (nI i) (gx_links u) (gx_ruleCount u) (gx_matches u) (gx_actions u) (gx_changes u) (gx_states u) (gx_places u) (gx_headers u) (gx_tables u) (gx_treated u) (gx_nodes u) (fl) (gx_marked u) (gx_bucket u) (gx_now u) (gx_next u) (gx_layer u) (gx_workLevel u) (gx_workOne u) (gx_workTwo u) (gx_workPhase u) (gx_workLow u) (gx_memoStamp u) (gx_memoOne u) (gx_memoTwo u) (gx_memoLevel u) (gx_memoGot u) := by
  intro d
  induction d with
  | zero =>
    intro i hi fl hf
    exact br_t (nI_le (a := 4096) (by omega) (by omega)) (hp fl (fun j hj => hf j (by omega)))
  | succ d ih =>
    intro i hi fl hf
    have hc : (nI i).toNatClampNeg = i := nI_clamp (by omega)
    have hv : vp_in (nI i) 4096 := vp_in_nI (by omega) (by decide)
    refine br_f (nI_ge (b := 4096) (by omega) (by decide)) ?_
    rw [nI_1, hc]
    have step : ∀ x, (x = if i + 1 < 4096 then nI (i + 1) else -1) → ∀ j, j < i + 1 → upd fl i x j = if j + 1 < 4096 then nI (j + 1) else -1 := by
      intro x hx j hj
      by_cases e : j = i
      · rw [e, pk_us]; exact hx
      · rw [pk_un e]; exact hf j (by omega)
    refine pk_le 4096 (i + 1) (fun z => And.intro hv (nm_e (nm_e (ih (i + 1) (by omega) _ (step _ ?_))))) (fun z => And.intro hv (nm_e (nm_e (ih (i + 1) (by omega) _ (step _ ?_)))))
    · rw [if_neg (by omega)]
    · rw [if_pos z]
theorem xz_2 {post : SX → Prop} (u : SX) (hp : ∀ bk : Nat → Int32, (∀ j, j < 1024 → bk j = -1) → ∃ n24, wX_reset_24 post (gx_active u) (gx_outPlace u) (gx_outHeader u) (gx_freeNode u) (gx_freeCount u) (gx_keptDiagram u) (gx_depth u) (gx_got u) (gx_stamp u) n24 0 (gx_links u) (gx_ruleCount u) (gx_matches u) (gx_actions u) (gx_changes u) (gx_states u) (gx_places u) (gx_headers u) (gx_tables u) (gx_treated u) (gx_nodes u) (gx_following u) (gx_marked u) (bk) (gx_now u) (gx_next u) (gx_layer u) (gx_workLevel u) (gx_workOne u) (gx_workTwo u) (gx_workPhase u) (gx_workLow u) (gx_memoStamp u) (gx_memoOne u) (gx_memoTwo u) (gx_memoLevel u) (gx_memoGot u)) : ∀ d i, i + d = 1024 → ∀ bk : Nat → Int32, (∀ j, j < i → bk j = -1) → wX_reset_2 post (gx_active u) (gx_outPlace u) (gx_outHeader u) (gx_freeNode u) (gx_freeCount u) (gx_keptDiagram u) (gx_depth u) (gx_got u) (gx_stamp u) (d + 1) (nI i) (gx_links u) (gx_ruleCount u) (gx_matches u) (gx_actions u) (gx_changes u) (gx_states u) (gx_places u) (gx_headers u) (gx_tables u) (gx_treated u) (gx_nodes u) (gx_following u) (gx_marked u) (bk) (gx_now u) (gx_next u) (gx_layer u) (gx_workLevel u) (gx_workOne u) (gx_workTwo u) (gx_workPhase u) (gx_workLow u) (gx_memoStamp u) (gx_memoOne u) (gx_memoTwo u) (gx_memoLevel u) (gx_memoGot u) := by
  intro d
  induction d with
  | zero =>
    intro i hi bk hf
    exact br_t (nI_le (a := 1024) (by omega) (by omega)) (hp bk (fun j hj => hf j (by omega)))
  | succ d ih =>
    intro i hi bk hf
    have hc : (nI i).toNatClampNeg = i := nI_clamp (by omega)
    have hv : vp_in (nI i) 1024 := vp_in_nI (by omega) (by decide)
    refine br_f (nI_ge (b := 1024) (by omega) (by decide)) (And.intro hv ?_)
    rw [hc]
    refine nm_e (nm_r (nI_1 i) (ih (i + 1) (by omega) _ ?_))
    intro j hj
    by_cases e : j = i
    · rw [e, pk_us]
    · rw [pk_un e]; exact hf j (by omega)
theorem st_Ch_0 {fl : Nat → Int32} (hf : ∀ j, j < 4096 → fl j = if j + 1 < 4096 then nI (j + 1) else -1) : ∀ d i, i + d = 4096 → st_Ch fl (if i < 4096 then nI i else -1) (List.range' i d) := by
  intro d
  induction d with
  | zero =>
    intro i hi
    show (if i < 4096 then nI i else -1) = -1
    rw [if_neg (by omega)]
  | succ d ih =>
    intro i hi
    rw [List.range'_succ]
    refine ⟨if_pos (by omega), by omega, ?_⟩
    rw [hf i (by omega)]
    exact ih (i + 1) (by omega)
theorem st_Ok_0 {nd fl bk : Nat → Int32} (hf : ∀ j, j < 4096 → fl j = if j + 1 < 4096 then nI (j + 1) else -1) (hb : ∀ j, j < 1024 → bk j = -1) : st_Ok (0, 4096, nd, fl, bk) (List.range' 0 4096) := by
  have hno : ∀ n, ¬ st_al (List.range' 0 4096) n := fun n h => h.2 (by rw [List.mem_range'_1]; exact ⟨by omega, by have := h.1; omega⟩)
  refine ⟨⟨List.nodup_range', fun n h => by rw [List.mem_range'_1] at h; omega⟩, ?_, ?_, ?_, ?_, ?_, ?_⟩
  · have := st_Ch_0 hf 4096 0 (by omega)
    rw [if_pos (by decide)] at this
    exact this
  · rw [List.length_range']
    rfl
  · intro k hk
    exact ⟨[], hb k hk, fun n => ⟨fun h => absurd h List.not_mem_nil, fun h => absurd h.1 (hno n)⟩⟩
  · intro n h; exact absurd h (hno n)
  · intro n h; exact absurd h (hno n)
  · intro n m h; exact absurd h (hno n)
theorem xz_b {post : SX → Prop} (bk : Nat → Int32) (f_active : Int32) (f_outPlace : Int32) (f_outHeader : Int32) (f_freeNode : Int32) (f_freeCount : Int32) (f_keptDiagram : Int32) (f_depth : Int32) (f_got : Int32) (f_stamp : Int32) (a_links : Nat → Int32) (a_ruleCount : Nat → Int32) (a_matches : Nat → Int32) (a_actions : Nat → Int32) (a_changes : Nat → Int32) (a_states : Nat → Int32) (a_places : Nat → Int32) (a_headers : Nat → Int32) (a_tables : Nat → Int32) (a_treated : Nat → Int32) (a_nodes : Nat → Int32) (a_following : Nat → Int32) (a_marked : Nat → Int32) (a_bucket : Nat → Int32) (a_now : Nat → Int32) (a_next : Nat → Int32) (a_layer : Nat → Int32) (a_workLevel : Nat → Int32) (a_workOne : Nat → Int32) (a_workTwo : Nat → Int32) (a_workPhase : Nat → Int32) (a_workLow : Nat → Int32) (a_memoStamp : Nat → Int32) (a_memoOne : Nat → Int32) (a_memoTwo : Nat → Int32) (a_memoLevel : Nat → Int32) (a_memoGot : Nat → Int32) (hp : ∀ fl, (∀ j, j < 4096 → fl j = if j + 1 < 4096 then nI (j + 1) else -1) → post (f_active, f_outPlace, f_outHeader, 0, 4096, -1, f_depth, f_got, f_stamp, a_links, a_ruleCount, a_matches, a_actions, a_changes, a_states, a_places, a_headers, a_tables, a_treated, a_nodes, fl, a_marked, bk, a_now, a_next, a_layer, a_workLevel, a_workOne, a_workTwo, a_workPhase, a_workLow, a_memoStamp, a_memoOne, a_memoTwo, a_memoLevel, a_memoGot)) : wX_reset_24 post f_active f_outPlace f_outHeader f_freeNode f_freeCount f_keptDiagram f_depth f_got f_stamp 4097 0 a_links a_ruleCount a_matches a_actions a_changes a_states a_places a_headers a_tables a_treated a_nodes a_following a_marked bk a_now a_next a_layer a_workLevel a_workOne a_workTwo a_workPhase a_workLow a_memoStamp a_memoOne a_memoTwo a_memoLevel a_memoGot := by
  refine xz_24 (post := post) (f_active, f_outPlace, f_outHeader, f_freeNode, f_freeCount, f_keptDiagram, f_depth, f_got, f_stamp, a_links, a_ruleCount, a_matches, a_actions, a_changes, a_states, a_places, a_headers, a_tables, a_treated, a_nodes, a_following, a_marked, bk, a_now, a_next, a_layer, a_workLevel, a_workOne, a_workTwo, a_workPhase, a_workLow, a_memoStamp, a_memoOne, a_memoTwo, a_memoLevel, a_memoGot) ?_ 4096 0 (by omega) a_following (fun j hj => absurd hj (by omega))
  intro fl hf
  exact hp fl hf
theorem xz_reset {post : SX → Prop} : ∀ u : SX, (∀ u', st_Ok (bx_S u') (List.range' 0 4096) → bx_C u' = bx_C u → bx_M u' = bx_M u → gx_keptDiagram u' = -1 → post u') → wpX_reset post u := by
  rintro ⟨f_active, f_outPlace, f_outHeader, f_freeNode, f_freeCount, f_keptDiagram, f_depth, f_got, f_stamp, a_links, a_ruleCount, a_matches, a_actions, a_changes, a_states, a_places, a_headers, a_tables, a_treated, a_nodes, a_following, a_marked, a_bucket, a_now, a_next, a_layer, a_workLevel, a_workOne, a_workTwo, a_workPhase, a_workLow, a_memoStamp, a_memoOne, a_memoTwo, a_memoLevel, a_memoGot⟩ hp
  have key : ∃ n2 : Nat, wX_reset_2 post f_active f_outPlace f_outHeader f_freeNode f_freeCount f_keptDiagram f_depth f_got f_stamp n2 0 a_links a_ruleCount a_matches a_actions a_changes a_states a_places a_headers a_tables a_treated a_nodes a_following a_marked a_bucket a_now a_next a_layer a_workLevel a_workOne a_workTwo a_workPhase a_workLow a_memoStamp a_memoOne a_memoTwo a_memoLevel a_memoGot := by
    refine ⟨1025, xz_2 (post := post) (f_active, f_outPlace, f_outHeader, f_freeNode, f_freeCount, f_keptDiagram, f_depth, f_got, f_stamp, a_links, a_ruleCount, a_matches, a_actions, a_changes, a_states, a_places, a_headers, a_tables, a_treated, a_nodes, a_following, a_marked, a_bucket, a_now, a_next, a_layer, a_workLevel, a_workOne, a_workTwo, a_workPhase, a_workLow, a_memoStamp, a_memoOne, a_memoTwo, a_memoLevel, a_memoGot) ?_ 1024 0 (by omega) a_bucket (fun j hj => absurd hj (by omega))⟩
    intro bk hb
    refine ⟨4097, xz_b (post := post) bk f_active f_outPlace f_outHeader f_freeNode f_freeCount f_keptDiagram f_depth f_got f_stamp a_links a_ruleCount a_matches a_actions a_changes a_states a_places a_headers a_tables a_treated a_nodes a_following a_marked a_bucket a_now a_next a_layer a_workLevel a_workOne a_workTwo a_workPhase a_workLow a_memoStamp a_memoOne a_memoTwo a_memoLevel a_memoGot ?_⟩
    intro fl hf
    exact hp (f_active, f_outPlace, f_outHeader, 0, 4096, -1, f_depth, f_got, f_stamp, a_links, a_ruleCount, a_matches, a_actions, a_changes, a_states, a_places, a_headers, a_tables, a_treated, a_nodes, fl, a_marked, bk, a_now, a_next, a_layer, a_workLevel, a_workOne, a_workTwo, a_workPhase, a_workLow, a_memoStamp, a_memoOne, a_memoTwo, a_memoLevel, a_memoGot) (st_Ok_0 hf hb) rfl rfl rfl
  exact key
end
section
/-! sweep: the store out of the marks -/
def sw_I (nd mk : Nat → Int32) (i : Nat) (fn fc : Int32) (fl bk : Nat → Int32) (F M : List Nat) : Prop := st_Ch fl fn F ∧ (∀ n, n ∈ F ↔ (n < i ∧ mk n = 0)) ∧ F.Nodup ∧ fc = nI F.length ∧ (∀ n, n ∈ M ↔ (n < i ∧ ¬ mk n = 0)) ∧ M.Nodup ∧ F.length + M.length = i ∧ ∀ k, k < 1024 → ∃ B, st_Ch fl (bk k) B ∧ ∀ n, n ∈ B ↔ (n < i ∧ ¬ mk n = 0 ∧ bk_f (nd n) = k)
theorem sw_f {nd mk : Nat → Int32} {i : Nat} {fn fc : Int32} {fl bk : Nat → Int32} {F M : List Nat} (h4 : i < 4096) (H : sw_I nd mk i fn fc fl bk F M) (hm : mk i = 0) : sw_I nd mk (i + 1) (nI i) (fc + 1) (upd fl i fn) bk (i :: F) M := by
  obtain ⟨h1, h2, h3, h4', h5, h6, h7, h8⟩ := H
  have hiF : i ∉ F := fun z => by have := (h2 i).mp z; omega
  refine ⟨⟨rfl, h4, ?_⟩, ?_, List.nodup_cons.mpr ⟨hiF, h3⟩, ?_, ?_, h6, by rw [List.length_cons]; omega, ?_⟩
  · rw [pk_us]; exact st_Ch_u F _ hiF h1
  · intro n
    rw [List.mem_cons, h2 n]
    constructor
    · rintro (e | e)
      · rw [e]; exact ⟨by omega, hm⟩
      · exact ⟨by omega, e.2⟩
    · rintro ⟨e1, e2⟩
      by_cases e : n = i
      · exact Or.inl e
      · exact Or.inr ⟨by omega, e2⟩
  · rw [h4', nI_1, List.length_cons]
  · intro n
    rw [h5 n]
    constructor
    · rintro ⟨e1, e2⟩; exact ⟨by omega, e2⟩
    · rintro ⟨e1, e2⟩
      refine ⟨?_, e2⟩
      by_cases e : n = i
      · rw [e] at e2; exact absurd hm e2
      · omega
  · intro k hk
    obtain ⟨B, b1, b2⟩ := h8 k hk
    refine ⟨B, st_Ch_u B _ (fun z => by have := (b2 i).mp z; omega) b1, fun n => ?_⟩
    rw [b2 n]
    constructor
    · rintro ⟨e1, e2⟩; exact ⟨by omega, e2⟩
    · rintro ⟨e1, e2⟩
      refine ⟨?_, e2⟩
      by_cases e : n = i
      · rw [e] at e2; exact absurd hm e2.1
      · omega
theorem sw_m {nd mk : Nat → Int32} {i : Nat} {fn fc : Int32} {fl bk : Nat → Int32} {F M : List Nat} (h4 : i < 4096) (H : sw_I nd mk i fn fc fl bk F M) (hm : ¬ mk i = 0) : sw_I nd mk (i + 1) fn fc (upd fl i (bk (bk_f (nd i)))) (upd bk (bk_f (nd i)) (nI i)) F (i :: M) := by
  obtain ⟨h1, h2, h3, h4', h5, h6, h7, h8⟩ := H
  have hiF : i ∉ F := fun z => by have := (h2 i).mp z; omega
  have hiM : i ∉ M := fun z => by have := (h5 i).mp z; omega
  refine ⟨st_Ch_u F _ hiF h1, ?_, h3, h4', ?_, List.nodup_cons.mpr ⟨hiM, h6⟩, by rw [List.length_cons]; omega, ?_⟩
  · intro n
    rw [h2 n]
    constructor
    · rintro ⟨e1, e2⟩; exact ⟨by omega, e2⟩
    · rintro ⟨e1, e2⟩
      refine ⟨?_, e2⟩
      by_cases e : n = i
      · rw [e] at e2; exact absurd e2 hm
      · omega
  · intro n
    rw [List.mem_cons, h5 n]
    constructor
    · rintro (e | e)
      · rw [e]; exact ⟨by omega, hm⟩
      · exact ⟨by omega, e.2⟩
    · rintro ⟨e1, e2⟩
      by_cases e : n = i
      · exact Or.inl e
      · exact Or.inr ⟨by omega, e2⟩
  · intro k hk
    obtain ⟨B, b1, b2⟩ := h8 k hk
    have hiB : i ∉ B := fun z => by have := (b2 i).mp z; omega
    by_cases ek : k = bk_f (nd i)
    · refine ⟨i :: B, ⟨?_, h4, ?_⟩, fun n => ?_⟩
      · rw [ek, pk_us]
      · rw [pk_us, ← ek]; exact st_Ch_u B _ hiB b1
      · rw [List.mem_cons, b2 n]
        constructor
        · rintro (e | e)
          · rw [e]; exact ⟨by omega, hm, ek.symm⟩
          · exact ⟨by omega, e.2⟩
        · rintro ⟨e1, e2⟩
          by_cases e : n = i
          · exact Or.inl e
          · exact Or.inr ⟨by omega, e2⟩
    · refine ⟨B, ?_, fun n => ?_⟩
      · rw [pk_un ek]; exact st_Ch_u B _ hiB b1
      · rw [b2 n]
        constructor
        · rintro ⟨e1, e2⟩; exact ⟨by omega, e2⟩
        · rintro ⟨e1, e2⟩
          refine ⟨?_, e2⟩
          by_cases e : n = i
          · rw [e] at e2; exact absurd e2.2.symm ek
          · omega
theorem sw_34 {post : SX → Prop} (u : SX) (hp : ∀ fn fc fl bk F M, sw_I (gx_nodes u) (gx_marked u) 4096 fn fc fl bk F M → post (sx_sto u fn fc (gx_nodes u) fl bk)) : ∀ d i, i + d = 4096 → ∀ fn fc fl bk F M, sw_I (gx_nodes u) (gx_marked u) i fn fc fl bk F M → wX_sweep_34 post (gx_active u) (gx_outPlace u) (gx_outHeader u) (gx_keptDiagram u) (gx_depth u) (gx_got u) (gx_stamp u) (d + 1) (nI i) fn fc (gx_links u) (gx_ruleCount u) (gx_matches u) (gx_actions u) (gx_changes u) (gx_states u) (gx_places u) (gx_headers u) (gx_tables u) (gx_treated u) (gx_nodes u) (fl) (gx_marked u) (bk) (gx_now u) (gx_next u) (gx_layer u) (gx_workLevel u) (gx_workOne u) (gx_workTwo u) (gx_workPhase u) (gx_workLow u) (gx_memoStamp u) (gx_memoOne u) (gx_memoTwo u) (gx_memoLevel u) (gx_memoGot u) := by
  intro d
  induction d with
  | zero =>
    intro i hi fn fc fl bk F M H
    have e : i = 4096 := by omega
    subst e
    exact br_t (by decide) (hp fn fc fl bk F M H)
  | succ d ih =>
    intro i hi fn fc fl bk F M H
    have hc : (nI i).toNatClampNeg = i := nI_clamp (by omega)
    have hv : vp_in (nI i) 4096 := vp_in_nI (by omega) (by decide)
    refine br_f (nI_ge (b := 4096) (by omega) (by decide)) (And.intro hv ?_)
    rw [hc]
    refine br_c (fun z => And.intro hv (nm_e (nm_e (nm_r (nI_1 i) ?_)))) (fun z => And.intro hv ?_)
    · exact ih (i + 1) (by omega) _ _ _ _ _ _ (sw_f (by omega) H z)
    · show vp_in _ 1024 ∧ _
      rw [bk_eq]
      have hk : vp_in (nI (bk_f (gx_nodes u i))) 1024 := vp_in_nI (bk_lt _) (by decide)
      have hkc : (nI (bk_f (gx_nodes u i))).toNatClampNeg = bk_f (gx_nodes u i) := nI_clamp (by have := bk_lt (gx_nodes u i); omega)
      refine And.intro hk (And.intro hv ?_)
      rw [hkc]
      refine nm_e (And.intro hk (nm_e (nm_r (nI_1 i) ?_)))
      exact ih (i + 1) (by omega) _ _ _ _ _ _ (sw_m (by omega) H z)
theorem sw_2 {post : SX → Prop} (u : SX) (hp : ∀ bk : Nat → Int32, (∀ j, j < 1024 → bk j = -1) → ∃ n34, wX_sweep_34 post (gx_active u) (gx_outPlace u) (gx_outHeader u) (gx_keptDiagram u) (gx_depth u) (gx_got u) (gx_stamp u) n34 0 (-1) 0 (gx_links u) (gx_ruleCount u) (gx_matches u) (gx_actions u) (gx_changes u) (gx_states u) (gx_places u) (gx_headers u) (gx_tables u) (gx_treated u) (gx_nodes u) (gx_following u) (gx_marked u) (bk) (gx_now u) (gx_next u) (gx_layer u) (gx_workLevel u) (gx_workOne u) (gx_workTwo u) (gx_workPhase u) (gx_workLow u) (gx_memoStamp u) (gx_memoOne u) (gx_memoTwo u) (gx_memoLevel u) (gx_memoGot u)) : ∀ d i, i + d = 1024 → ∀ bk : Nat → Int32, (∀ j, j < i → bk j = -1) → wX_sweep_2 post (gx_active u) (gx_outPlace u) (gx_outHeader u) (gx_freeNode u) (gx_freeCount u) (gx_keptDiagram u) (gx_depth u) (gx_got u) (gx_stamp u) (d + 1) (nI i) (gx_links u) (gx_ruleCount u) (gx_matches u) (gx_actions u) (gx_changes u) (gx_states u) (gx_places u) (gx_headers u) (gx_tables u) (gx_treated u) (gx_nodes u) (gx_following u) (gx_marked u) (bk) (gx_now u) (gx_next u) (gx_layer u) (gx_workLevel u) (gx_workOne u) (gx_workTwo u) (gx_workPhase u) (gx_workLow u) (gx_memoStamp u) (gx_memoOne u) (gx_memoTwo u) (gx_memoLevel u) (gx_memoGot u) := by
  intro d
  induction d with
  | zero =>
    intro i hi bk hf
    exact br_t (nI_le (a := 1024) (by omega) (by omega)) (hp bk (fun j hj => hf j (by omega)))
  | succ d ih =>
    intro i hi bk hf
    have hc : (nI i).toNatClampNeg = i := nI_clamp (by omega)
    have hv : vp_in (nI i) 1024 := vp_in_nI (by omega) (by decide)
    refine br_f (nI_ge (b := 1024) (by omega) (by decide)) (And.intro hv ?_)
    rw [hc]
    refine nm_e (nm_r (nI_1 i) (ih (i + 1) (by omega) _ ?_))
    intro j hj
    by_cases e : j = i
    · rw [e, pk_us]
    · rw [pk_un e]; exact hf j (by omega)
theorem sw_w {post : SX → Prop} : ∀ u : SX, (∀ fn fc fl bk F M, sw_I (gx_nodes u) (gx_marked u) 4096 fn fc fl bk F M → post (sx_sto u fn fc (gx_nodes u) fl bk)) → wpX_sweep post u := by
  rintro ⟨f_active, f_outPlace, f_outHeader, f_freeNode, f_freeCount, f_keptDiagram, f_depth, f_got, f_stamp, a_links, a_ruleCount, a_matches, a_actions, a_changes, a_states, a_places, a_headers, a_tables, a_treated, a_nodes, a_following, a_marked, a_bucket, a_now, a_next, a_layer, a_workLevel, a_workOne, a_workTwo, a_workPhase, a_workLow, a_memoStamp, a_memoOne, a_memoTwo, a_memoLevel, a_memoGot⟩ hp
  refine Exists.intro 1025 (sw_2 (post := post) (f_active, f_outPlace, f_outHeader, f_freeNode, f_freeCount, f_keptDiagram, f_depth, f_got, f_stamp, a_links, a_ruleCount, a_matches, a_actions, a_changes, a_states, a_places, a_headers, a_tables, a_treated, a_nodes, a_following, a_marked, a_bucket, a_now, a_next, a_layer, a_workLevel, a_workOne, a_workTwo, a_workPhase, a_workLow, a_memoStamp, a_memoOne, a_memoTwo, a_memoLevel, a_memoGot) ?_ 1024 0 (by omega) a_bucket (fun j hj => absurd hj (by omega)))
  intro bk hb
  refine ⟨4097, sw_34 (post := post) (f_active, f_outPlace, f_outHeader, f_freeNode, f_freeCount, f_keptDiagram, f_depth, f_got, f_stamp, a_links, a_ruleCount, a_matches, a_actions, a_changes, a_states, a_places, a_headers, a_tables, a_treated, a_nodes, a_following, a_marked, a_bucket, a_now, a_next, a_layer, a_workLevel, a_workOne, a_workTwo, a_workPhase, a_workLow, a_memoStamp, a_memoOne, a_memoTwo, a_memoLevel, a_memoGot) hp 4096 0 (by omega) (-1) 0 a_following bk [] [] ?_⟩
  refine ⟨rfl, fun n => ⟨fun h => absurd h List.not_mem_nil, fun h => absurd h.1 (by omega)⟩, List.nodup_nil, rfl, fun n => ⟨fun h => absurd h List.not_mem_nil, fun h => absurd h.1 (by omega)⟩, List.nodup_nil, rfl, fun k hk => ⟨[], hb k hk, fun n => ⟨fun h => absurd h List.not_mem_nil, fun h => absurd h.1 (by omega)⟩⟩⟩
theorem ls_le : ∀ (M X : List Nat), M.Nodup → (∀ n, n ∈ M → n ∈ X) → M.length ≤ X.length := by
  intro M
  induction M with
  | nil => intro X _ _; exact Nat.zero_le _
  | cons a M ih =>
    intro X hN hS
    have ha : a ∈ X := hS a List.mem_cons_self
    have h1 := ih (X.erase a) (List.nodup_cons.mp hN).2 (fun n hn => by
      have hne : n ≠ a := fun e => (List.nodup_cons.mp hN).1 (e ▸ hn)
      exact (List.mem_erase_of_ne hne).mpr (hS n (List.mem_cons_of_mem _ hn)))
    rw [List.length_erase_of_mem ha] at h1
    have : 0 < X.length := List.length_pos_of_mem ha
    rw [List.length_cons]
    omega
/-- the inner nodes of a diagram -/
def rl_x (nd : Nat → Nat) : Nat → Nat → List Nat
  | 0, _ => []
  | k + 1, n => if dg_lv (nd n) = 5 - k then n :: (rl_x nd k (dg_lo (nd n)) ++ rl_x nd k (dg_hi (nd n))) else rl_x nd k n
theorem rl_len (nd : Nat → Nat) : ∀ k n, (rl_x nd k n).length + 1 ≤ 2 ^ k := by
  intro k
  induction k with
  | zero => intro n; exact Nat.le_refl _
  | succ k ih =>
    intro n
    have h2 : 2 ^ (k + 1) = 2 * 2 ^ k := by rw [Nat.pow_succ]; omega
    have h3 := Nat.two_pow_pos k
    unfold rl_x
    by_cases h : dg_lv (nd n) = 5 - k
    · rw [if_pos h, List.length_cons, List.length_append]
      have := ih (dg_lo (nd n))
      have := ih (dg_hi (nd n))
      omega
    · rw [if_neg h]
      have := ih n
      omega
theorem rl_self (nd : Nat → Nat) : ∀ k, k ≤ 6 → ∀ n, 6 - k ≤ dg_lv (nd n) → dg_lv (nd n) < 6 → n ∈ rl_x nd k n := by
  intro k
  induction k with
  | zero => intro _ n h1 h2; omega
  | succ k ih =>
    intro hk n h1 h2
    unfold rl_x
    by_cases h : dg_lv (nd n) = 5 - k
    · rw [if_pos h]; exact List.mem_cons_self
    · rw [if_neg h]; exact ih (by omega) n (by omega) h2
theorem rl_in {nd : Nat → Nat} {al : Nat → Prop} (W : dg_Wd nd al) : ∀ k, k ≤ 6 → ∀ r, al r → 6 - k ≤ dg_lv (nd r) → ∀ n, n ∈ rl_x nd k r → al n ∧ dg_lv (nd n) < 6 ∧ (dg_lv (nd (dg_lo (nd n))) < 6 → dg_lo (nd n) ∈ rl_x nd k r) ∧ (dg_lv (nd (dg_hi (nd n))) < 6 → dg_hi (nd n) ∈ rl_x nd k r) := by
  intro k
  induction k with
  | zero => intro _ r _ _ n hn; exact absurd hn List.not_mem_nil
  | succ k ih =>
    intro hk r hr hl n hn
    unfold rl_x at hn ⊢
    by_cases h : dg_lv (nd r) = 5 - k
    · rw [if_pos h] at hn ⊢
      have hin := dg_inner W hr (by omega)
      rcases List.mem_cons.mp hn with e | e
      · subst e
        refine ⟨hr, by omega, fun z => ?_, fun z => ?_⟩
        · exact List.mem_cons_of_mem _ (List.mem_append_left _ (rl_self nd k (by omega) _ (by omega) z))
        · exact List.mem_cons_of_mem _ (List.mem_append_right _ (rl_self nd k (by omega) _ (by omega) z))
      · rcases List.mem_append.mp e with e | e
        · have := ih (by omega) _ hin.1 (by omega) n e
          exact ⟨this.1, this.2.1, fun z => List.mem_cons_of_mem _ (List.mem_append_left _ (this.2.2.1 z)), fun z => List.mem_cons_of_mem _ (List.mem_append_left _ (this.2.2.2 z))⟩
        · have := ih (by omega) _ hin.2.1 (by omega) n e
          exact ⟨this.1, this.2.1, fun z => List.mem_cons_of_mem _ (List.mem_append_right _ (this.2.2.1 z)), fun z => List.mem_cons_of_mem _ (List.mem_append_right _ (this.2.2.2 z))⟩
    · rw [if_neg h] at hn ⊢
      exact ih (by omega) r hr (by omega) n hn
end
section
/-! collect -/
theorem nb_v0 : vp_nar .boolean 0 = 0 := rfl
theorem nb_v1 : vp_nar .boolean 1 = 1 := rfl
theorem mk_u {mk : Nat → Int32} {a n : Nat} : ¬ upd mk a 1 n = 0 ↔ (n = a ∨ ¬ mk n = 0) := by
  by_cases e : n = a
  · rw [e, pk_us]
    exact ⟨fun _ => Or.inl rfl, fun _ => by decide⟩
  · rw [pk_un e]
    exact ⟨fun h => Or.inr h, fun h => h.resolve_left e⟩
/-- the leaves with small values are few -/
theorem lf_ex {nd : Nat → Nat} {al : Nat → Prop} (W : dg_Wd nd al) (U : ∀ n m, al n → al m → nd n = nd m → n = m) : ∀ V : Nat, ∃ X : List Nat, X.length ≤ V ∧ ∀ n, al n → dg_lv (nd n) = 6 → dg_lo (nd n) < V → n ∈ X := by
  intro V
  induction V with
  | zero => exact ⟨[], Nat.le_refl _, fun n _ _ h => absurd h (by omega)⟩
  | succ V ih =>
    obtain ⟨X, h1, h2⟩ := ih
    by_cases hex : ∃ n, al n ∧ dg_lv (nd n) = 6 ∧ dg_lo (nd n) = V
    · obtain ⟨m, m1, m2, m3⟩ := hex
      refine ⟨m :: X, by rw [List.length_cons]; omega, fun n n1 n2 n3 => ?_⟩
      by_cases e : dg_lo (nd n) = V
      · have a1 := dg_leaf W m1 (by omega)
        have a2 := dg_leaf W n1 (by omega)
        have : n = m := U n m n1 m1 (dg_inj (by omega) (by omega) (by omega))
        rw [this]; exact List.mem_cons_self
      · exact List.mem_cons_of_mem _ (h2 n n1 n2 (by omega))
    · refine ⟨X, by omega, fun n n1 n2 n3 => h2 n n1 n2 ?_⟩
      by_cases e : dg_lo (nd n) = V
      · exact absurd ⟨n, n1, n2, e⟩ hex
      · omega
section
variable {nd : Nat → Nat} {Pp Rt : Nat → Prop}
/-- marks are sound, all roots are marked, what is marked above the level has its branches marked -/
def mk_I (nd : Nat → Nat) (Pp Rt : Nat → Prop) (l : Nat) (mk : Nat → Int32) : Prop := (∀ n, n < 4096 → ¬ mk n = 0 → Pp n) ∧ (∀ r, Rt r → ¬ mk r = 0) ∧ ∀ n, n < 4096 → ¬ mk n = 0 → dg_lv (nd n) < l → ¬ mk (dg_lo (nd n)) = 0 ∧ ¬ mk (dg_hi (nd n)) = 0
def mk_J (nd : Nat → Nat) (Pp Rt : Nat → Prop) (l i : Nat) (mk : Nat → Int32) : Prop := mk_I nd Pp Rt l mk ∧ ∀ n, n < i → ¬ mk n = 0 → dg_lv (nd n) = l → ¬ mk (dg_lo (nd n)) = 0 ∧ ¬ mk (dg_hi (nd n)) = 0
theorem mk_s0 {l i : Nat} {mk : Nat → Int32} (H : mk_J nd Pp Rt l i mk) (h : mk i = 0 ∨ dg_lv (nd i) ≠ l) : mk_J nd Pp Rt l (i + 1) mk := by
  refine ⟨H.1, fun n hn hm hl => ?_⟩
  by_cases e : n = i
  · rw [e] at hm hl
    rcases h with h | h
    · exact absurd h hm
    · exact absurd hl h
  · exact H.2 n (by omega) hm hl
theorem mk_s1 {l i : Nat} {mk : Nat → Int32} (hP : ∀ n, Pp n → dg_lv (nd n) < 6 → Pp (dg_lo (nd n)) ∧ Pp (dg_hi (nd n)) ∧ dg_lv (nd n) < dg_lv (nd (dg_lo (nd n))) ∧ dg_lv (nd n) < dg_lv (nd (dg_hi (nd n)))) (hl : l < 6) (hi : i < 4096) (H : mk_J nd Pp Rt l i mk) (hm : ¬ mk i = 0) (he : dg_lv (nd i) = l) : mk_J nd Pp Rt l (i + 1) (upd (upd mk (dg_lo (nd i)) 1) (dg_hi (nd i)) 1) := by
  obtain ⟨⟨h1, h2, h3⟩, h4⟩ := H
  have hp := hP i (h1 i hi hm) (by omega)
  have key : ∀ n, ¬ upd (upd mk (dg_lo (nd i)) 1) (dg_hi (nd i)) 1 n = 0 ↔ (n = dg_hi (nd i) ∨ n = dg_lo (nd i) ∨ ¬ mk n = 0) := fun n => by rw [mk_u, mk_u]
  have old : ∀ n, ¬ mk n = 0 → ¬ upd (upd mk (dg_lo (nd i)) 1) (dg_hi (nd i)) 1 n = 0 := fun n h => (key n).mpr (Or.inr (Or.inr h))
  have low : ∀ n, ¬ upd (upd mk (dg_lo (nd i)) 1) (dg_hi (nd i)) 1 n = 0 → dg_lv (nd n) ≤ l → ¬ mk n = 0 := by
    intro n hn hl'
    rcases (key n).mp hn with e | e | e
    · rw [e] at hl'; omega
    · rw [e] at hl'; omega
    · exact e
  refine ⟨⟨fun n hn hm' => ?_, fun r hr => old r (h2 r hr), fun n hn hm' hl' => ?_⟩, fun n hn hm' hl' => ?_⟩
  · rcases (key n).mp hm' with e | e | e
    · rw [e]; exact hp.2.1
    · rw [e]; exact hp.1
    · exact h1 n hn e
  · have := h3 n hn (low n hm' (by omega)) hl'
    exact ⟨old _ this.1, old _ this.2⟩
  · by_cases e : n = i
    · rw [e]
      exact ⟨(key _).mpr (Or.inr (Or.inl rfl)), (key _).mpr (Or.inl rfl)⟩
    · have := h4 n (by omega) (low n hm' (by omega)) hl'
      exact ⟨old _ this.1, old _ this.2⟩
theorem sp_l {post : SX → Prop} {F : List Nat} {l : Nat} (hl : l < 6) (u : SX) (S : st_Ok (bx_S u) F) (hnd : st_nd (bx_S u) = nd) (hal : ∀ n, Pp n → st_al F n) (hP : ∀ n, Pp n → dg_lv (nd n) < 6 → Pp (dg_lo (nd n)) ∧ Pp (dg_hi (nd n)) ∧ dg_lv (nd n) < dg_lv (nd (dg_lo (nd n))) ∧ dg_lv (nd n) < dg_lv (nd (dg_hi (nd n)))) (hp : ∀ mk, mk_I nd Pp Rt (l + 1) mk → post (sx_mark u mk)) : ∀ d i, i + d = 4096 → ∀ mk, mk_J nd Pp Rt l i mk → wX_spread_2 post (nI l) (gx_active u) (gx_outPlace u) (gx_outHeader u) (gx_freeNode u) (gx_freeCount u) (gx_keptDiagram u) (gx_depth u) (gx_got u) (gx_stamp u) (d + 1) (nI i) (gx_links u) (gx_ruleCount u) (gx_matches u) (gx_actions u) (gx_changes u) (gx_states u) (gx_places u) (gx_headers u) (gx_tables u) (gx_treated u) (gx_nodes u) (gx_following u) (mk) (gx_bucket u) (gx_now u) (gx_next u) (gx_layer u) (gx_workLevel u) (gx_workOne u) (gx_workTwo u) (gx_workPhase u) (gx_workLow u) (gx_memoStamp u) (gx_memoOne u) (gx_memoTwo u) (gx_memoLevel u) (gx_memoGot u) := by
  intro d
  induction d with
  | zero =>
    intro i hi mk H
    refine br_t (nI_le (a := 4096) (by omega) (by omega)) (hp mk ⟨H.1.1, H.1.2.1, fun n hn hm hl' => ?_⟩)
    by_cases e : dg_lv (nd n) = l
    · exact H.2 n (by omega) hm e
    · exact H.1.2.2 n hn hm (by omega)
  | succ d ih =>
    intro i hi mk H
    have hc : (nI i).toNatClampNeg = i := nI_clamp (by omega)
    have hv : vp_in (nI i) 4096 := vp_in_nI (by omega) (by decide)
    refine br_f (nI_ge (b := 4096) (by omega) (by decide)) (And.intro hv ?_)
    rw [hc]
    refine br_c (fun z => ?_) (fun z => ?_)
    · exact nm_r (nI_1 i) (ih (i + 1) (by omega) mk (mk_s0 H (Or.inl z)))
    · have hi4 : i < 4096 := by omega
      have a1 := hal i (H.1.1 i hi4 z)
      have S' : st_Ok (bx_S (sx_mark u mk)) F := S
      have e1 : st_nd (bx_S (sx_mark u mk)) i = nd i := by rw [← hnd]; rfl
      have l6 : dg_lv (nd i) ≤ 6 := by rw [← hnd]; exact dg_le6 (st_W S) a1
      have klv : ∀ post : Int32 → Prop, post (nI (dg_lv (nd i))) → wpX_levelOf post (sx_mark u mk) (nI i) := fun post h => xl_lv a1 _ S' (by rw [e1]; exact h)
      have klo : ∀ post : Int32 → Prop, post (nI (dg_lo (nd i))) → wpX_lowOf post (sx_mark u mk) (nI i) := fun post h => xl_lo a1 _ S' (by rw [e1]; exact h)
      have khi : ∀ post : Int32 → Prop, post (nI (dg_hi (nd i))) → wpX_highOf post (sx_mark u mk) (nI i) := fun post h => xl_hi a1 _ S' (by rw [e1]; exact h)
      refine klv _ ?_
      refine pk_eq (dg_lv (nd i)) l (fun y => ?_) (fun y => ?_)
      · refine klo _ ?_
        refine khi _ ?_
        have b1 := dg_lo_lt (nd i)
        have b2 := dg_hi_lt (nd i)
        refine And.intro (vp_in_nI b1 (by decide)) ?_
        rw [nI_clamp (by omega), nI_clamp (by omega), nb_v1]
        exact nm_e (And.intro (vp_in_nI b2 (by decide)) (nm_e (nm_r (nI_1 i) (ih (i + 1) (by omega) _ (mk_s1 hP hl hi4 H z y)))))
      · exact nm_r (nI_1 i) (ih (i + 1) (by omega) mk (mk_s0 H (Or.inr y)))
theorem sp_w {post : SX → Prop} {F : List Nat} {l : Nat} (hl : l < 6) (u : SX) (S : st_Ok (bx_S u) F) (hnd : st_nd (bx_S u) = nd) (hal : ∀ n, Pp n → st_al F n) (hP : ∀ n, Pp n → dg_lv (nd n) < 6 → Pp (dg_lo (nd n)) ∧ Pp (dg_hi (nd n)) ∧ dg_lv (nd n) < dg_lv (nd (dg_lo (nd n))) ∧ dg_lv (nd n) < dg_lv (nd (dg_hi (nd n)))) (H : mk_I nd Pp Rt l (gx_marked u)) (hp : ∀ mk, mk_I nd Pp Rt (l + 1) mk → post (sx_mark u mk)) : wpX_spread post u (nI l) := by
  have key := sp_l hl u S hnd hal hP hp 4096 0 (by omega) (gx_marked u) ⟨H, fun n hn => absurd hn (by omega)⟩
  obtain ⟨f_active, f_outPlace, f_outHeader, f_freeNode, f_freeCount, f_keptDiagram, f_depth, f_got, f_stamp, a_links, a_ruleCount, a_matches, a_actions, a_changes, a_states, a_places, a_headers, a_tables, a_treated, a_nodes, a_following, a_marked, a_bucket, a_now, a_next, a_layer, a_workLevel, a_workOne, a_workTwo, a_workPhase, a_workLow, a_memoStamp, a_memoOne, a_memoTwo, a_memoLevel, a_memoGot⟩ := u
  exact Exists.intro _ key
theorem co_95 {post : SX → Prop} {F : List Nat} (u : SX) (S : st_Ok (bx_S u) F) (hnd : st_nd (bx_S u) = nd) (hal : ∀ n, Pp n → st_al F n) (hP : ∀ n, Pp n → dg_lv (nd n) < 6 → Pp (dg_lo (nd n)) ∧ Pp (dg_hi (nd n)) ∧ dg_lv (nd n) < dg_lv (nd (dg_lo (nd n))) ∧ dg_lv (nd n) < dg_lv (nd (dg_hi (nd n)))) (hp : ∀ mk fn fc fl bk F' M, mk_I nd Pp Rt 6 mk → sw_I (gx_nodes u) mk 4096 fn fc fl bk F' M → post (sx_sto (sx_mark u mk) fn fc (gx_nodes u) fl bk)) : ∀ d l, l + d = 6 → ∀ (u' : SX) (mk : Nat → Int32), u' = sx_mark u mk → mk_I nd Pp Rt l mk → wX_collect_95 post (d + 1) (nI l) (gx_active u') (gx_outPlace u') (gx_outHeader u') (gx_freeNode u') (gx_freeCount u') (gx_keptDiagram u') (gx_depth u') (gx_got u') (gx_stamp u') (gx_links u') (gx_ruleCount u') (gx_matches u') (gx_actions u') (gx_changes u') (gx_states u') (gx_places u') (gx_headers u') (gx_tables u') (gx_treated u') (gx_nodes u') (gx_following u') (gx_marked u') (gx_bucket u') (gx_now u') (gx_next u') (gx_layer u') (gx_workLevel u') (gx_workOne u') (gx_workTwo u') (gx_workPhase u') (gx_workLow u') (gx_memoStamp u') (gx_memoOne u') (gx_memoTwo u') (gx_memoLevel u') (gx_memoGot u') := by
  intro d
  induction d with
  | zero =>
    intro l hl u' mk eu H
    have e : l = 6 := by omega
    subst e
    have key : ∀ Q : SX → Prop, (∀ u', post u' → Q u') → wpX_sweep Q u' := by
      intro Q hQ
      refine sw_w u' (fun fn fc fl bk F' M h => hQ _ ?_)
      subst eu
      exact hp mk fn fc fl bk F' M H h
    clear hp eu
    obtain ⟨f_active, f_outPlace, f_outHeader, f_freeNode, f_freeCount, f_keptDiagram, f_depth, f_got, f_stamp, a_links, a_ruleCount, a_matches, a_actions, a_changes, a_states, a_places, a_headers, a_tables, a_treated, a_nodes, a_following, a_marked, a_bucket, a_now, a_next, a_layer, a_workLevel, a_workOne, a_workTwo, a_workPhase, a_workLow, a_memoStamp, a_memoOne, a_memoTwo, a_memoLevel, a_memoGot⟩ := u'
    refine br_t (by decide) (key _ ?_)
    rintro ⟨f_active2, f_outPlace2, f_outHeader2, f_freeNode2, f_freeCount2, f_keptDiagram2, f_depth2, f_got2, f_stamp2, a_links2, a_ruleCount2, a_matches2, a_actions2, a_changes2, a_states2, a_places2, a_headers2, a_tables2, a_treated2, a_nodes2, a_following2, a_marked2, a_bucket2, a_now2, a_next2, a_layer2, a_workLevel2, a_workOne2, a_workTwo2, a_workPhase2, a_workLow2, a_memoStamp2, a_memoOne2, a_memoTwo2, a_memoLevel2, a_memoGot2⟩ h
    exact h
  | succ d ih =>
    intro l hl u' mk eu H
    have key : ∀ Q : SX → Prop, (∀ u' : SX, wX_collect_95 post (d + 1) (nI (l + 1)) (gx_active u') (gx_outPlace u') (gx_outHeader u') (gx_freeNode u') (gx_freeCount u') (gx_keptDiagram u') (gx_depth u') (gx_got u') (gx_stamp u') (gx_links u') (gx_ruleCount u') (gx_matches u') (gx_actions u') (gx_changes u') (gx_states u') (gx_places u') (gx_headers u') (gx_tables u') (gx_treated u') (gx_nodes u') (gx_following u') (gx_marked u') (gx_bucket u') (gx_now u') (gx_next u') (gx_layer u') (gx_workLevel u') (gx_workOne u') (gx_workTwo u') (gx_workPhase u') (gx_workLow u') (gx_memoStamp u') (gx_memoOne u') (gx_memoTwo u') (gx_memoLevel u') (gx_memoGot u') → Q u') → wpX_spread Q u' (nI l) := by
      intro Q hQ
      have S' : st_Ok (bx_S u') F := by rw [eu]; exact S
      have hnd' : st_nd (bx_S u') = nd := by rw [eu]; exact hnd
      refine sp_w (by omega) u' S' hnd' hal hP (by rw [eu]; exact H) (fun mk' h' => hQ _ ?_)
      refine ih (l + 1) (by omega) _ mk' ?_ h'
      rw [eu]; rfl
    clear hp eu
    obtain ⟨f_active, f_outPlace, f_outHeader, f_freeNode, f_freeCount, f_keptDiagram, f_depth, f_got, f_stamp, a_links, a_ruleCount, a_matches, a_actions, a_changes, a_states, a_places, a_headers, a_tables, a_treated, a_nodes, a_following, a_marked, a_bucket, a_now, a_next, a_layer, a_workLevel, a_workOne, a_workTwo, a_workPhase, a_workLow, a_memoStamp, a_memoOne, a_memoTwo, a_memoLevel, a_memoGot⟩ := u'
    refine br_f (nI_ge (b := 6) (by omega) (by decide)) (key _ ?_)
    rintro ⟨f_active2, f_outPlace2, f_outHeader2, f_freeNode2, f_freeCount2, f_keptDiagram2, f_depth2, f_got2, f_stamp2, a_links2, a_ruleCount2, a_matches2, a_actions2, a_changes2, a_states2, a_places2, a_headers2, a_tables2, a_treated2, a_nodes2, a_following2, a_marked2, a_bucket2, a_now2, a_next2, a_layer2, a_workLevel2, a_workOne2, a_workTwo2, a_workPhase2, a_workLow2, a_memoStamp2, a_memoOne2, a_memoTwo2, a_memoLevel2, a_memoGot2⟩ h
    exact nm_r (nI_1 l) h
end
end
section
/-! collect: the whole -/
section
variable {Pp : Nat → Prop}
theorem co_35 {post : SX → Prop} {q : Nat} (hq : q ≤ 20) (u : SX) (nw nx : Nat → Nat) (h1 : ∀ p, p < 20 → gx_now u p = nI (nw p) ∧ nw p < 4096 ∧ Pp (nw p)) (h2 : ∀ p, p < q → gx_next u p = nI (nx p) ∧ nx p < 4096 ∧ Pp (nx p)) (hp : ∀ mk, (∀ n, n < 4096 → ¬ mk n = 0 → Pp n) → (∀ p, p < 20 → ¬ mk (nw p) = 0) → (∀ p, p < q → ¬ mk (nx p) = 0) → ((gx_keptDiagram u < 0 → ∃ n95, wX_collect_95 post n95 0 (gx_active u) (gx_outPlace u) (gx_outHeader u) (gx_freeNode u) (gx_freeCount u) (gx_keptDiagram u) (gx_depth u) (gx_got u) (gx_stamp u) (gx_links u) (gx_ruleCount u) (gx_matches u) (gx_actions u) (gx_changes u) (gx_states u) (gx_places u) (gx_headers u) (gx_tables u) (gx_treated u) (gx_nodes u) (gx_following u) (mk) (gx_bucket u) (gx_now u) (gx_next u) (gx_layer u) (gx_workLevel u) (gx_workOne u) (gx_workTwo u) (gx_workPhase u) (gx_workLow u) (gx_memoStamp u) (gx_memoOne u) (gx_memoTwo u) (gx_memoLevel u) (gx_memoGot u)) ∧ (¬ gx_keptDiagram u < 0 → (vp_in (gx_keptDiagram u) 4096 ∧ ∀ mk', mk' = upd mk (gx_keptDiagram u).toNatClampNeg (vp_nar .boolean 1) → ∃ n95, wX_collect_95 post n95 0 (gx_active u) (gx_outPlace u) (gx_outHeader u) (gx_freeNode u) (gx_freeCount u) (gx_keptDiagram u) (gx_depth u) (gx_got u) (gx_stamp u) (gx_links u) (gx_ruleCount u) (gx_matches u) (gx_actions u) (gx_changes u) (gx_states u) (gx_places u) (gx_headers u) (gx_tables u) (gx_treated u) (gx_nodes u) (gx_following u) (mk') (gx_bucket u) (gx_now u) (gx_next u) (gx_layer u) (gx_workLevel u) (gx_workOne u) (gx_workTwo u) (gx_workPhase u) (gx_workLow u) (gx_memoStamp u) (gx_memoOne u) (gx_memoTwo u) (gx_memoLevel u) (gx_memoGot u))))) : ∀ d i, i + d = 20 → ∀ mk, (∀ n, n < 4096 → ¬ mk n = 0 → Pp n) → (∀ p, p < i → ¬ mk (nw p) = 0) → (∀ p, p < i → p < q → ¬ mk (nx p) = 0) → wX_collect_35 post (nI q) (gx_active u) (gx_outPlace u) (gx_outHeader u) (gx_freeNode u) (gx_freeCount u) (gx_keptDiagram u) (gx_depth u) (gx_got u) (gx_stamp u) (d + 1) (nI i) (gx_links u) (gx_ruleCount u) (gx_matches u) (gx_actions u) (gx_changes u) (gx_states u) (gx_places u) (gx_headers u) (gx_tables u) (gx_treated u) (gx_nodes u) (gx_following u) (mk) (gx_bucket u) (gx_now u) (gx_next u) (gx_layer u) (gx_workLevel u) (gx_workOne u) (gx_workTwo u) (gx_workPhase u) (gx_workLow u) (gx_memoStamp u) (gx_memoOne u) (gx_memoTwo u) (gx_memoLevel u) (gx_memoGot u) := by
  intro d
  induction d with
  | zero =>
    intro i hi mk a b c
    exact br_t (nI_le (a := 20) (by omega) (by omega)) (hp mk a (fun p hp => b p (by omega)) (fun p hp => c p (by omega) hp))
  | succ d ih =>
    intro i hi mk a b c
    have hc : (nI i).toNatClampNeg = i := nI_clamp (by omega)
    have hv : vp_in (nI i) 20 := vp_in_nI (by omega) (by decide)
    have n1 := h1 i (by omega)
    refine br_f (nI_ge (b := 20) (by omega) (by decide)) (And.intro hv ?_)
    rw [hc, n1.1, nI_clamp (show nw i < 2 ^ 31 by omega), nb_v1]
    refine And.intro (vp_in_nI n1.2.1 (by decide)) (nm_e ?_)
    have a' : ∀ n, n < 4096 → ¬ upd mk (nw i) 1 n = 0 → Pp n := by
      intro n hn hm
      rcases mk_u.mp hm with e | e
      · rw [e]; exact n1.2.2
      · exact a n hn e
    have b' : ∀ p, p < i + 1 → ¬ upd mk (nw i) 1 (nw p) = 0 := by
      intro p hp'
      by_cases e : p = i
      · rw [e]; exact mk_u.mpr (Or.inl rfl)
      · exact mk_u.mpr (Or.inr (b p (by omega)))
    refine pk_le q i (fun z => ?_) (fun z => ?_)
    · refine nm_r (nI_1 i) (ih (i + 1) (by omega) _ a' b' ?_)
      intro p hp1 hp2
      exact mk_u.mpr (Or.inr (c p (by omega) hp2))
    · have n2 := h2 i z
      refine And.intro hv ?_
      rw [n2.1, nI_clamp (show nx i < 2 ^ 31 by omega)]
      refine And.intro (vp_in_nI n2.2.1 (by decide)) (nm_e (nm_r (nI_1 i) (ih (i + 1) (by omega) _ ?_ ?_ ?_)))
      · intro n hn hm
        rcases mk_u.mp hm with e | e
        · rw [e]; exact n2.2.2
        · exact a' n hn e
      · intro p hp'
        exact mk_u.mpr (Or.inr (b' p hp'))
      · intro p hp1 hp2
        by_cases e : p = i
        · rw [e]; exact mk_u.mpr (Or.inl rfl)
        · exact mk_u.mpr (Or.inr (mk_u.mpr (Or.inr (c p (by omega) hp2))))
end
theorem co_13 {post : SX → Prop} {x1 : Int32} (u : SX) (hp : ∀ mk : Nat → Int32, (∀ j, j < 4096 → mk j = 0) → ∃ n35, wX_collect_35 post x1 (gx_active u) (gx_outPlace u) (gx_outHeader u) (gx_freeNode u) (gx_freeCount u) (gx_keptDiagram u) (gx_depth u) (gx_got u) (gx_stamp u) n35 0 (gx_links u) (gx_ruleCount u) (gx_matches u) (gx_actions u) (gx_changes u) (gx_states u) (gx_places u) (gx_headers u) (gx_tables u) (gx_treated u) (gx_nodes u) (gx_following u) (mk) (gx_bucket u) (gx_now u) (gx_next u) (gx_layer u) (gx_workLevel u) (gx_workOne u) (gx_workTwo u) (gx_workPhase u) (gx_workLow u) (gx_memoStamp u) (gx_memoOne u) (gx_memoTwo u) (gx_memoLevel u) (gx_memoGot u)) : ∀ d i, i + d = 4096 → ∀ mk : Nat → Int32, (∀ j, j < i → mk j = 0) → wX_collect_13 post x1 (gx_active u) (gx_outPlace u) (gx_outHeader u) (gx_freeNode u) (gx_freeCount u) (gx_keptDiagram u) (gx_depth u) (gx_got u) (gx_stamp u) (d + 1) (nI i) (gx_links u) (gx_ruleCount u) (gx_matches u) (gx_actions u) (gx_changes u) (gx_states u) (gx_places u) (gx_headers u) (gx_tables u) (gx_treated u) (gx_nodes u) (gx_following u) (mk) (gx_bucket u) (gx_now u) (gx_next u) (gx_layer u) (gx_workLevel u) (gx_workOne u) (gx_workTwo u) (gx_workPhase u) (gx_workLow u) (gx_memoStamp u) (gx_memoOne u) (gx_memoTwo u) (gx_memoLevel u) (gx_memoGot u) := by
  intro d
  induction d with
  | zero =>
    intro i hi mk hf
    exact br_t (nI_le (a := 4096) (by omega) (by omega)) (hp mk (fun j hj => hf j (by omega)))
  | succ d ih =>
    intro i hi mk hf
    have hc : (nI i).toNatClampNeg = i := nI_clamp (by omega)
    have hv : vp_in (nI i) 4096 := vp_in_nI (by omega) (by decide)
    refine br_f (nI_ge (b := 4096) (by omega) (by decide)) (And.intro hv ?_)
    rw [hc]
    refine nm_e (nm_r (nI_1 i) (ih (i + 1) (by omega) _ ?_))
    intro j hj
    by_cases e : j = i
    · rw [e, pk_us]; rfl
    · rw [pk_un e]; exact hf j (by omega)
/-- the store behind a sweep -/
theorem sw_ok {fn0 fc0 fn fc : Int32} {nd fl0 bk0 fl bk mk : Nat → Int32} {F F' M R : List Nat} {Rt : Nat → Prop} (S : st_Ok (fn0, fc0, nd, fl0, bk0) F) (hR : R.length ≤ 41) (hr : ∀ r, r ∈ R → st_al F r) (hI : mk_I (st_nd (fn0, fc0, nd, fl0, bk0)) (fun n => st_al F n ∧ (dg_lv (st_nd (fn0, fc0, nd, fl0, bk0) n) < 6 → n ∈ R.flatMap (rl_x (st_nd (fn0, fc0, nd, fl0, bk0)) 6))) Rt 6 mk) (hS : sw_I nd mk 4096 fn fc fl bk F' M) : st_Ok (fn, fc, nd, fl, bk) F' ∧ 1000 ≤ F'.length ∧ ∀ n, n < 4096 → ¬ mk n = 0 → st_al F' n := by
  obtain ⟨i1, i2, i3⟩ := hI
  obtain ⟨s1, s2, s3, s4, s5, s6, s7, s8⟩ := hS
  have W := st_W S
  have al' : ∀ n, st_al F' n ↔ (n < 4096 ∧ ¬ mk n = 0) := by
    intro n
    unfold st_al
    rw [s2 n]
    exact ⟨fun h => ⟨h.1, fun z => h.2 ⟨h.1, z⟩⟩, fun h => ⟨h.1, fun z => h.2 z.2⟩⟩
  have alo : ∀ n, st_al F' n → st_al F n := fun n h => (i1 n ((al' n).mp h).1 ((al' n).mp h).2).1
  have hnd : st_nd (fn, fc, nd, fl, bk) = st_nd (fn0, fc0, nd, fl0, bk0) := rfl
  refine ⟨⟨⟨s3, fun n h => ((s2 n).mp h).1⟩, s1, s4, ?_, ?_, ?_, ?_⟩, ?_, fun n h1 h2 => (al' n).mpr ⟨h1, h2⟩⟩
  · intro k hk
    obtain ⟨B, b1, b2⟩ := s8 k hk
    refine ⟨B, b1, fun n => ?_⟩
    rw [b2 n, al' n]
    exact ⟨fun h => ⟨⟨h.1, h.2.1⟩, h.2.2⟩, fun h => ⟨h.1.1, h.1.2, h.2⟩⟩
  · intro n h
    exact st_n S (alo n h)
  · intro n h
    rw [hnd]
    refine ⟨h.1, ?_⟩
    rcases (W n (alo n h)).2 with c | c
    · exact Or.inl c
    · have := i3 n h.1 ((al' n).mp h).2 c.1
      exact Or.inr ⟨c.1, (al' _).mpr ⟨dg_lo_lt _, this.1⟩, (al' _).mpr ⟨dg_hi_lt _, this.2⟩, c.2.2.2⟩
  · intro n m h1 h2 e
    exact st_U S n m (alo n h1) (alo m h2) e
  · obtain ⟨X, x1, x2⟩ := lf_ex W (st_U S) 384
    have hM : M.length ≤ (R.flatMap (rl_x (st_nd (fn0, fc0, nd, fl0, bk0)) 6) ++ X).length := by
      refine ls_le M _ s6 (fun n hn => ?_)
      have hm := (s5 n).mp hn
      have hi := i1 n hm.1 hm.2
      by_cases h6 : dg_lv (st_nd (fn0, fc0, nd, fl0, bk0) n) < 6
      · exact List.mem_append_left _ (hi.2 h6)
      · have lf := dg_leaf W hi.1 h6
        exact List.mem_append_right _ (x2 n hi.1 lf.1 lf.2.1)
    rw [List.length_append] at hM
    have hL : ∀ R : List Nat, (R.flatMap (rl_x (st_nd (fn0, fc0, nd, fl0, bk0)) 6)).length ≤ 63 * R.length := by
      intro R
      induction R with
      | nil => exact Nat.le_refl _
      | cons r R ih =>
        rw [List.flatMap_cons, List.length_append, List.length_cons]
        have : (rl_x (st_nd (fn0, fc0, nd, fl0, bk0)) 6 r).length + 1 ≤ 64 := rl_len _ 6 r
        omega
    have := hL R
    omega
theorem xd_collect {post : SX → Prop} {q : Nat} {F : List Nat} {kd : Option Nat} (hq : q ≤ 20) (u : SX) (S : st_Ok (bx_S u) F) (nw nx : Nat → Nat) (h1 : ∀ p, p < 20 → gx_now u p = nI (nw p) ∧ st_al F (nw p)) (h2 : ∀ p, p < q → gx_next u p = nI (nx p) ∧ st_al F (nx p)) (h3 : gx_keptDiagram u = kd.elim (-1) nI) (h4 : ∀ r, kd = some r → st_al F r) (hp : ∀ u' F', st_Ok (bx_S u') F' → 1000 ≤ F'.length → bx_C u' = bx_C u → bx_D u' = bx_D u → bx_M u' = bx_M u → gx_nodes u' = gx_nodes u → (∀ p, p < 20 → st_al F' (nw p)) → (∀ p, p < q → st_al F' (nx p)) → (∀ r, kd = some r → st_al F' r) → post u') : wpX_collect post u (nI q) := by
  have hfc : gx_freeCount u = nI F.length := S.2.2.1
  have hF4 : F.length ≤ 4096 := by
    have := ls_le F (List.range' 0 4096) S.1.1 (fun n hn => by rw [List.mem_range'_1]; exact ⟨by omega, by have := S.1.2 n hn; omega⟩)
    rw [List.length_range'] at this
    exact this
  by_cases hbig : 1000 ≤ F.length
  · have := hp u F S hbig rfl rfl rfl rfl (fun p hp => (h1 p hp).2) (fun p hp => (h2 p hp).2) h4
    clear hp
    obtain ⟨f_active, f_outPlace, f_outHeader, f_freeNode, f_freeCount, f_keptDiagram, f_depth, f_got, f_stamp, a_links, a_ruleCount, a_matches, a_actions, a_changes, a_states, a_places, a_headers, a_tables, a_treated, a_nodes, a_following, a_marked, a_bucket, a_now, a_next, a_layer, a_workLevel, a_workOne, a_workTwo, a_workPhase, a_workLow, a_memoStamp, a_memoOne, a_memoTwo, a_memoLevel, a_memoGot⟩ := u
    refine br_f ?_ this
    rw [show f_freeCount = nI F.length from hfc]
    exact nI_nlt (b := 1000) hbig (by omega)
  · have W := st_W S
    generalize hR : (List.range' 0 20).map nw ++ ((List.range' 0 q).map nx ++ (kd.elim [] (fun r => [r]))) = R
    have r1 : ∀ p, p < 20 → nw p ∈ R := fun p hp' => by
      rw [← hR]; exact List.mem_append_left _ (List.mem_map.mpr ⟨p, by rw [List.mem_range'_1]; omega, rfl⟩)
    have r2 : ∀ p, p < q → nx p ∈ R := fun p hp' => by
      rw [← hR]; exact List.mem_append_right _ (List.mem_append_left _ (List.mem_map.mpr ⟨p, by rw [List.mem_range'_1]; omega, rfl⟩))
    have r3 : ∀ r, kd = some r → r ∈ R := fun r hr => by
      rw [← hR, hr]; exact List.mem_append_right _ (List.mem_append_right _ List.mem_cons_self)
    have rl : R.length ≤ 41 := by
      rw [← hR, List.length_append, List.length_append, List.length_map, List.length_map, List.length_range', List.length_range']
      cases kd with
      | none => show 20 + (q + 0) ≤ 41; omega
      | some r => show 20 + (q + 1) ≤ 41; omega
    have ra : ∀ r, r ∈ R → st_al F r := by
      intro r hr
      rw [← hR] at hr
      rcases List.mem_append.mp hr with h | h
      · obtain ⟨p, hp1, hp2⟩ := List.mem_map.mp h
        rw [List.mem_range'_1] at hp1
        rw [← hp2]; exact (h1 p (by omega)).2
      · rcases List.mem_append.mp h with h | h
        · obtain ⟨p, hp1, hp2⟩ := List.mem_map.mp h
          rw [List.mem_range'_1] at hp1
          rw [← hp2]; exact (h2 p (by omega)).2
        · cases hk : kd with
          | none => rw [hk] at h; exact absurd h List.not_mem_nil
          | some r' =>
            rw [hk] at h
            have : r = r' := List.mem_singleton.mp h
            rw [this]; exact h4 r' hk
    clear hR
    have hin : ∀ r, r ∈ R → (dg_lv (st_nd (bx_S u) r) < 6 → r ∈ R.flatMap (rl_x (st_nd (bx_S u)) 6)) := fun r hr h6 => List.mem_flatMap.mpr ⟨r, hr, rl_self _ 6 (by omega) r (by omega) h6⟩
    have hP : ∀ n, (st_al F n ∧ (dg_lv (st_nd (bx_S u) n) < 6 → n ∈ R.flatMap (rl_x (st_nd (bx_S u)) 6))) → dg_lv (st_nd (bx_S u) n) < 6 → (st_al F (dg_lo (st_nd (bx_S u) n)) ∧ (dg_lv (st_nd (bx_S u) (dg_lo (st_nd (bx_S u) n))) < 6 → dg_lo (st_nd (bx_S u) n) ∈ R.flatMap (rl_x (st_nd (bx_S u)) 6))) ∧ (st_al F (dg_hi (st_nd (bx_S u) n)) ∧ (dg_lv (st_nd (bx_S u) (dg_hi (st_nd (bx_S u) n))) < 6 → dg_hi (st_nd (bx_S u) n) ∈ R.flatMap (rl_x (st_nd (bx_S u)) 6))) ∧ dg_lv (st_nd (bx_S u) n) < dg_lv (st_nd (bx_S u) (dg_lo (st_nd (bx_S u) n))) ∧ dg_lv (st_nd (bx_S u) n) < dg_lv (st_nd (bx_S u) (dg_hi (st_nd (bx_S u) n))) := by
      intro n hn h6
      have hin' := dg_inner W hn.1 h6
      obtain ⟨r, hr1, hr2⟩ := List.mem_flatMap.mp (hn.2 h6)
      have := rl_in W 6 (by omega) r (ra r hr1) (by omega) n hr2
      exact ⟨⟨hin'.1, fun z => List.mem_flatMap.mpr ⟨r, hr1, this.2.2.1 z⟩⟩, ⟨hin'.2.1, fun z => List.mem_flatMap.mpr ⟨r, hr1, this.2.2.2 z⟩⟩, hin'.2.2.2.1, hin'.2.2.2.2⟩
    have fin : ∀ mk, (∀ n, n < 4096 → ¬ mk n = 0 → (st_al F n ∧ (dg_lv (st_nd (bx_S u) n) < 6 → n ∈ R.flatMap (rl_x (st_nd (bx_S u)) 6)))) → (∀ p, p < 20 → ¬ mk (nw p) = 0) → (∀ p, p < q → ¬ mk (nx p) = 0) → (∀ r, kd = some r → ¬ mk r = 0) → ∃ n95, wX_collect_95 post n95 0 (gx_active (sx_mark u mk)) (gx_outPlace (sx_mark u mk)) (gx_outHeader (sx_mark u mk)) (gx_freeNode (sx_mark u mk)) (gx_freeCount (sx_mark u mk)) (gx_keptDiagram (sx_mark u mk)) (gx_depth (sx_mark u mk)) (gx_got (sx_mark u mk)) (gx_stamp (sx_mark u mk)) (gx_links (sx_mark u mk)) (gx_ruleCount (sx_mark u mk)) (gx_matches (sx_mark u mk)) (gx_actions (sx_mark u mk)) (gx_changes (sx_mark u mk)) (gx_states (sx_mark u mk)) (gx_places (sx_mark u mk)) (gx_headers (sx_mark u mk)) (gx_tables (sx_mark u mk)) (gx_treated (sx_mark u mk)) (gx_nodes (sx_mark u mk)) (gx_following (sx_mark u mk)) (gx_marked (sx_mark u mk)) (gx_bucket (sx_mark u mk)) (gx_now (sx_mark u mk)) (gx_next (sx_mark u mk)) (gx_layer (sx_mark u mk)) (gx_workLevel (sx_mark u mk)) (gx_workOne (sx_mark u mk)) (gx_workTwo (sx_mark u mk)) (gx_workPhase (sx_mark u mk)) (gx_workLow (sx_mark u mk)) (gx_memoStamp (sx_mark u mk)) (gx_memoOne (sx_mark u mk)) (gx_memoTwo (sx_mark u mk)) (gx_memoLevel (sx_mark u mk)) (gx_memoGot (sx_mark u mk)) := by
      intro mk m1 m2 m3 m4
      refine ⟨7, co_95 (nd := st_nd (bx_S u)) (Pp := fun n => st_al F n ∧ (dg_lv (st_nd (bx_S u) n) < 6 → n ∈ R.flatMap (rl_x (st_nd (bx_S u)) 6))) (Rt := fun r => (∃ p, p < 20 ∧ r = nw p) ∨ (∃ p, p < q ∧ r = nx p) ∨ kd = some r) u S rfl (fun n h => h.1) hP ?_ 6 0 (by omega) (sx_mark u mk) mk rfl ⟨m1, ?_, fun n _ _ h => absurd h (by omega)⟩⟩
      · intro mk' fn fc fl bk F' M hI hS
        obtain ⟨o1, o2, o3⟩ := sw_ok (fn0 := gx_freeNode u) (fc0 := gx_freeCount u) (fl0 := gx_following u) (bk0 := gx_bucket u) (R := R) S rl ra hI hS
        refine hp _ F' o1 o2 rfl rfl rfl rfl (fun p hp' => o3 _ (h1 p hp').2.1 (hI.2.1 _ (Or.inl ⟨p, hp', rfl⟩))) (fun p hp' => o3 _ (h2 p hp').2.1 (hI.2.1 _ (Or.inr (Or.inl ⟨p, hp', rfl⟩)))) (fun r hr => o3 _ (h4 r hr).1 (hI.2.1 _ (Or.inr (Or.inr hr))))
      · rintro r (⟨p, hp', e⟩ | ⟨p, hp', e⟩ | e)
        · rw [e]; exact m2 p hp'
        · rw [e]; exact m3 p hp'
        · exact m4 r e
    have k13 : wX_collect_13 post (nI q) (gx_active u) (gx_outPlace u) (gx_outHeader u) (gx_freeNode u) (gx_freeCount u) (gx_keptDiagram u) (gx_depth u) (gx_got u) (gx_stamp u) (4096 + 1) (nI 0) (gx_links u) (gx_ruleCount u) (gx_matches u) (gx_actions u) (gx_changes u) (gx_states u) (gx_places u) (gx_headers u) (gx_tables u) (gx_treated u) (gx_nodes u) (gx_following u) (gx_marked u) (gx_bucket u) (gx_now u) (gx_next u) (gx_layer u) (gx_workLevel u) (gx_workOne u) (gx_workTwo u) (gx_workPhase u) (gx_workLow u) (gx_memoStamp u) (gx_memoOne u) (gx_memoTwo u) (gx_memoLevel u) (gx_memoGot u) := by
      refine co_13 u (fun mk hmk => ⟨21, ?_⟩) 4096 0 (by omega) (gx_marked u) (fun j hj => absurd hj (by omega))
      refine co_35 (Pp := fun n => st_al F n ∧ (dg_lv (st_nd (bx_S u) n) < 6 → n ∈ R.flatMap (rl_x (st_nd (bx_S u)) 6))) hq u nw nx (fun p hp' => ⟨(h1 p hp').1, (h1 p hp').2.1, (h1 p hp').2, hin _ (r1 p hp')⟩) (fun p hp' => ⟨(h2 p hp').1, (h2 p hp').2.1, (h2 p hp').2, hin _ (r2 p hp')⟩) ?_ 20 0 (by omega) mk (fun n hn hm => absurd (hmk n hn) hm) (fun p hp' => absurd hp' (by omega)) (fun p hp' => absurd hp' (by omega))
      intro mk m1 m2 m3
      cases hk : kd with
      | none =>
        have e : gx_keptDiagram u = -1 := by rw [h3, hk]; rfl
        exact br_t (by rw [e]; decide) (fin mk m1 m2 m3 (fun r hr => absurd (hk.symm.trans hr) (by simp)))
      | some r =>
        have e : gx_keptDiagram u = nI r := by rw [h3, hk]; rfl
        have hr4 := (h4 r hk).1
        refine br_f (by rw [e]; exact nI_pos (by omega)) (And.intro (by rw [e]; exact vp_in_nI hr4 (by decide)) (nm_r (e' := upd mk r 1) (by rw [e, nI_clamp (by omega), nb_v1]) ?_))
        refine fin (upd mk r 1) ?_ (fun p hp' => mk_u.mpr (Or.inr (m2 p hp'))) (fun p hp' => mk_u.mpr (Or.inr (m3 p hp'))) ?_
        · intro n hn hm
          rcases mk_u.mp hm with e' | e'
          · rw [e']; exact ⟨h4 r hk, hin _ (r3 r hk)⟩
          · exact m1 n hn e'
        · intro r' hr'
          have : r' = r := Option.some.inj (hr'.symm.trans hk)
          rw [this]; exact mk_u.mpr (Or.inl rfl)
    clear fin hp
    obtain ⟨f_active, f_outPlace, f_outHeader, f_freeNode, f_freeCount, f_keptDiagram, f_depth, f_got, f_stamp, a_links, a_ruleCount, a_matches, a_actions, a_changes, a_states, a_places, a_headers, a_tables, a_treated, a_nodes, a_following, a_marked, a_bucket, a_now, a_next, a_layer, a_workLevel, a_workOne, a_workTwo, a_workPhase, a_workLow, a_memoStamp, a_memoOne, a_memoTwo, a_memoLevel, a_memoGot⟩ := u
    refine br_t ?_ (Exists.intro _ k13)
    rw [show f_freeCount = nI F.length from hfc]
    exact nI_lt (b := 1000) (by omega) (by decide)
end
section
/-! behind and byRules -/
def md_v0 (g : Option Nat) : Nat := g.elim 2 (fun _ => 0)
def md_vd (g : Option Nat) : Nat := g.elim 1 (fun _ => 0)
def md_va (g : Option Nat) (q : Nat) : Nat := g.elim (100 + q) (fun _ => 0)
def md_st (g : Option Nat) (t : Nat) : Bool := g.elim false (fun s => t == s)
def md_I (g : Option Nat) : Int32 := g.elim (-1) nI
def fw_m (g : Option Nat) (lk : Nat → Option Nat) (T : TB) : Nat → Nat → Nat → Nat := fw_g lk T (md_st g) (md_v0 g) (md_vd g) (md_va g)
theorem fw_m_e (lk : Nat → Option Nat) (T : TB) : fw_m none lk T = fw_e lk T := rfl
theorem fw_m_s (lk : Nat → Option Nat) (T : TB) (s : Nat) : fw_m (some s) lk T = fw_s lk T s := rfl
/-- what a rule gives: dropped, out at an end, or on -/
def rb_v (g : Option Nat) (lk : Nat → Option Nat) (T : TB) (W : Nat → Nat → Nat) (p i h : Nat) : Nat := (tr_r T p h i).elim (md_vd g) (fun x => (lk x.1).elim (md_va g x.1) (fun p' => W p' x.2))
def rb_r (g : Option Nat) (lk : Nat → Option Nat) (T : TB) (W : Nat → Nat → Nat) (p j h : Nat) : Nat := (fr_b (fr_P T (p / 4) 6 h) (tb_c T (p / 4) - j) j).elim (md_vd g) (fun i => rb_v g lk T W p i h)
theorem rb_0 {g : Option Nat} {lk : Nat → Option Nat} {T : TB} {k p h : Nat} (hs : md_st g (p / 4) = false) : rb_r g lk T (fw_m g lk T k) p 0 h = fw_m g lk T (k + 1) p h := by
  unfold fw_m
  rw [fw_g, if_neg (by rw [hs]; decide)]
  unfold rb_r rb_v tr_o fr_x
  rw [Nat.sub_zero]
  cases fr_b (fr_P T (p / 4) 6 h) (tb_c T (p / 4)) 0 with
  | none => rfl
  | some i => rfl
theorem rb_end {g : Option Nat} {lk : Nat → Option Nat} {T : TB} {W : Nat → Nat → Nat} {p h : Nat} : rb_r g lk T W p (tb_c T (p / 4)) h = md_vd g := by
  unfold rb_r
  rw [Nat.sub_self]
  rfl
theorem rb_s {g : Option Nat} {lk : Nat → Option Nat} {T : TB} {W : Nat → Nat → Nat} {p j h : Nat} (hj : j < tb_c T (p / 4)) (h6 : j < 6) : rb_r g lk T W p j h = if mt_b (tb_m T (6 * (p / 4) + j)) h 6 = true then rb_v g lk T W p j h else rb_r g lk T W p (j + 1) h := by
  have hP : fr_P T (p / 4) 6 h j = mt_b (tb_m T (6 * (p / 4) + j)) h 6 := by
    unfold fr_P
    rw [show (j == 6) = false from by rw [beq_eq_false_iff_ne]; omega]
    rfl
  unfold rb_r
  rw [show tb_c T (p / 4) - j = (tb_c T (p / 4) - (j + 1)) + 1 by omega]
  show Option.elim (if fr_P T (p / 4) 6 h j = true then some j else fr_b (fr_P T (p / 4) 6 h) (tb_c T (p / 4) - (j + 1)) (j + 1)) _ _ = _
  rw [hP]
  by_cases z : mt_b (tb_m T (6 * (p / 4) + j)) h 6 = true
  · rw [if_pos z, if_pos z]; rfl
  · rw [if_neg z, if_neg z]
theorem xC_links {u u' : SX} (h : bx_C u' = bx_C u) : gx_links u' = gx_links u := congrArg (fun z => z.2.2.2.1) h
theorem xC_cnt {u u' : SX} (h : bx_C u' = bx_C u) : gx_ruleCount u' = gx_ruleCount u := congrArg (fun z => z.2.2.2.2.1) h
theorem xC_mat {u u' : SX} (h : bx_C u' = bx_C u) : gx_matches u' = gx_matches u := congrArg (fun z => z.2.2.2.2.2.1) h
theorem xC_act {u u' : SX} (h : bx_C u' = bx_C u) : gx_actions u' = gx_actions u := congrArg (fun z => z.2.2.2.2.2.2.1) h
theorem xC_chg {u u' : SX} (h : bx_C u' = bx_C u) : gx_changes u' = gx_changes u := congrArg (fun z => z.2.2.2.2.2.2.2.1) h
theorem xC_Hd {u u' : SX} (h : bx_C u' = bx_C u) {t : Nat} {T : TB} (H : tx_Hd u t T) : tx_Hd u' t T := by
  unfold tx_Hd
  rw [xC_cnt h, xC_mat h, xC_act h, xC_chg h]
  exact H
theorem xD_now {u u' : SX} (h : bx_D u' = bx_D u) : gx_now u' = gx_now u := congrArg (fun z => z.2.1) h
theorem xD_next {u u' : SX} (h : bx_D u' = bx_D u) : gx_next u' = gx_next u := congrArg (fun z => z.2.2.1) h
theorem xD_kept {u u' : SX} (h : bx_D u' = bx_D u) : gx_keptDiagram u' = gx_keptDiagram u := congrArg (fun z => z.1) h
theorem xD_layer {u u' : SX} (h : bx_D u' = bx_D u) : gx_layer u' = gx_layer u := congrArg (fun z => z.2.2.2) h
theorem md_va_lt (g : Option Nat) {q : Nat} (hq : q < 20) : md_va g q < 384 := by
  cases g with
  | none => show 100 + q < 384; omega
  | some s => show 0 < 384; omega
theorem dg_R_cg {b : SB} {F : List Nat} {r : Nat} {f f' : Nat → Nat} (h : dg_R b F r f) (e : ∀ x, x < 64 → f x = f' x) : dg_R b F r f' := ⟨h.1, fun x hx => (h.2 x hx).trans (e x hx)⟩
/-- printed side of behind, behind a place -/
theorem xb_51 {post : Int32 → SX → Prop} {g : Option Nat} {q : Nat} (hg : ∀ s, g = some s → s < 5) : ∀ u : SX, (∀ Q : Int32 → SX → Prop, (∀ r u', post r u' → Q r u') → wpX_leaf Q u (nI (md_va g q))) → ((0 ≤ md_I g → wX_behind_51 post 0 (gx_active u) (gx_outPlace u) (gx_outHeader u) (gx_freeNode u) (gx_freeCount u) (gx_keptDiagram u) (gx_depth u) (gx_got u) (gx_stamp u) (gx_links u) (gx_ruleCount u) (gx_matches u) (gx_actions u) (gx_changes u) (gx_states u) (gx_places u) (gx_headers u) (gx_tables u) (gx_treated u) (gx_nodes u) (gx_following u) (gx_marked u) (gx_bucket u) (gx_now u) (gx_next u) (gx_layer u) (gx_workLevel u) (gx_workOne u) (gx_workTwo u) (gx_workPhase u) (gx_workLow u) (gx_memoStamp u) (gx_memoOne u) (gx_memoTwo u) (gx_memoLevel u) (gx_memoGot u)) ∧ (¬ 0 ≤ md_I g → wX_behind_51 post (100 + nI q) (gx_active u) (gx_outPlace u) (gx_outHeader u) (gx_freeNode u) (gx_freeCount u) (gx_keptDiagram u) (gx_depth u) (gx_got u) (gx_stamp u) (gx_links u) (gx_ruleCount u) (gx_matches u) (gx_actions u) (gx_changes u) (gx_states u) (gx_places u) (gx_headers u) (gx_tables u) (gx_treated u) (gx_nodes u) (gx_following u) (gx_marked u) (gx_bucket u) (gx_now u) (gx_next u) (gx_layer u) (gx_workLevel u) (gx_workOne u) (gx_workTwo u) (gx_workPhase u) (gx_workLow u) (gx_memoStamp u) (gx_memoOne u) (gx_memoTwo u) (gx_memoLevel u) (gx_memoGot u))) := by
  rintro ⟨f_active, f_outPlace, f_outHeader, f_freeNode, f_freeCount, f_keptDiagram, f_depth, f_got, f_stamp, a_links, a_ruleCount, a_matches, a_actions, a_changes, a_states, a_places, a_headers, a_tables, a_treated, a_nodes, a_following, a_marked, a_bucket, a_now, a_next, a_layer, a_workLevel, a_workOne, a_workTwo, a_workPhase, a_workLow, a_memoStamp, a_memoOne, a_memoTwo, a_memoLevel, a_memoGot⟩ H
  have key : wX_behind_51 post (nI (md_va g q)) f_active f_outPlace f_outHeader f_freeNode f_freeCount f_keptDiagram f_depth f_got f_stamp a_links a_ruleCount a_matches a_actions a_changes a_states a_places a_headers a_tables a_treated a_nodes a_following a_marked a_bucket a_now a_next a_layer a_workLevel a_workOne a_workTwo a_workPhase a_workLow a_memoStamp a_memoOne a_memoTwo a_memoLevel a_memoGot := by
    refine H _ ?_
    rintro r ⟨f_active2, f_outPlace2, f_outHeader2, f_freeNode2, f_freeCount2, f_keptDiagram2, f_depth2, f_got2, f_stamp2, a_links2, a_ruleCount2, a_matches2, a_actions2, a_changes2, a_states2, a_places2, a_headers2, a_tables2, a_treated2, a_nodes2, a_following2, a_marked2, a_bucket2, a_now2, a_next2, a_layer2, a_workLevel2, a_workOne2, a_workTwo2, a_workPhase2, a_workLow2, a_memoStamp2, a_memoOne2, a_memoTwo2, a_memoLevel2, a_memoGot2⟩ h
    exact h
  cases g with
  | none =>
    refine br_f (by decide) ?_
    rw [show (100 : Int32) + nI q = nI (100 + q) from nI_add 100 q]
    exact key
  | some s => exact br_t (nI_pos' (by have := hg s rfl; omega)) key
theorem xb_25 {post : Int32 → SX → Prop} {g : Option Nat} {at_ q c : Nat} (hat : at_ < 120) (hq : q < 20) (hg : ∀ s, g = some s → s < 5) : ∀ u : SX, lk_Ok (gx_links u) → gx_changes u at_ = nI c → (lk_f (gx_links u) q = none → ∀ Q : Int32 → SX → Prop, (∀ r u', post r u' → Q r u') → wpX_leaf Q u (nI (md_va g q))) → (∀ p', p' < 20 → lk_f (gx_links u) q = some p' → ∀ Q : Int32 → SX → Prop, (∀ r u', post r u' → Q r u') → wpX_afterChange Q u (nI c) (gx_now u p')) → wX_behind_25 post (nI at_) (md_I g) (nI q) (gx_active u) (gx_outPlace u) (gx_outHeader u) (gx_freeNode u) (gx_freeCount u) (gx_keptDiagram u) (gx_depth u) (gx_got u) (gx_stamp u) (gx_links u) (gx_ruleCount u) (gx_matches u) (gx_actions u) (gx_changes u) (gx_states u) (gx_places u) (gx_headers u) (gx_tables u) (gx_treated u) (gx_nodes u) (gx_following u) (gx_marked u) (gx_bucket u) (gx_now u) (gx_next u) (gx_layer u) (gx_workLevel u) (gx_workOne u) (gx_workTwo u) (gx_workPhase u) (gx_workLow u) (gx_memoStamp u) (gx_memoOne u) (gx_memoTwo u) (gx_memoLevel u) (gx_memoGot u) := by
  intro u hl hc h0 h1
  have hv : vp_in (nI q) 20 := vp_in_nI hq (by decide)
  have hva : vp_in (nI at_) 120 := vp_in_nI hat (by decide)
  have k0 := fun e => xb_51 (post := post) (g := g) (q := q) hg u (h0 e)
  rcases lk_cs hl hq with ⟨l1, l2⟩ | ⟨p', hp', l1, l2⟩
  · have k := k0 l1
    clear k0 h0 h1
    refine And.intro hv (br_f ?_ k)
    rw [nI_clamp (by omega), l2]; decide
  · have k := h1 p' hp' l1
    clear k0 h0 h1
    refine And.intro hv (br_t ?_ (And.intro hva (And.intro hv ?_)))
    · rw [nI_clamp (by omega), l2]; exact nI_pos' (by omega)
    · obtain ⟨f_active, f_outPlace, f_outHeader, f_freeNode, f_freeCount, f_keptDiagram, f_depth, f_got, f_stamp, a_links, a_ruleCount, a_matches, a_actions, a_changes, a_states, a_places, a_headers, a_tables, a_treated, a_nodes, a_following, a_marked, a_bucket, a_now, a_next, a_layer, a_workLevel, a_workOne, a_workTwo, a_workPhase, a_workLow, a_memoStamp, a_memoOne, a_memoTwo, a_memoLevel, a_memoGot⟩ := u
      have e1 : a_links (nI q).toNatClampNeg = nI p' := by rw [nI_clamp (by omega)]; exact l2
      have e2 : a_changes (nI at_).toNatClampNeg = nI c := by rw [nI_clamp (by omega)]; exact hc
      have key : vp_in (a_links (nI q).toNatClampNeg) 20 ∧ (wpX_afterChange (fun r u => match u with | (f_active2, f_outPlace2, f_outHeader2, f_freeNode2, f_freeCount2, f_keptDiagram2, f_depth2, f_got2, f_stamp2, a_links2, a_ruleCount2, a_matches2, a_actions2, a_changes2, a_states2, a_places2, a_headers2, a_tables2, a_treated2, a_nodes2, a_following2, a_marked2, a_bucket2, a_now2, a_next2, a_layer2, a_workLevel2, a_workOne2, a_workTwo2, a_workPhase2, a_workLow2, a_memoStamp2, a_memoOne2, a_memoTwo2, a_memoLevel2, a_memoGot2) => post r (f_active2, f_outPlace2, f_outHeader2, f_freeNode2, f_freeCount2, f_keptDiagram2, f_depth2, f_got2, f_stamp2, a_links2, a_ruleCount2, a_matches2, a_actions2, a_changes2, a_states2, a_places2, a_headers2, a_tables2, a_treated2, a_nodes2, a_following2, a_marked2, a_bucket2, a_now2, a_next2, a_layer2, a_workLevel2, a_workOne2, a_workTwo2, a_workPhase2, a_workLow2, a_memoStamp2, a_memoOne2, a_memoTwo2, a_memoLevel2, a_memoGot2)) (f_active, f_outPlace, f_outHeader, f_freeNode, f_freeCount, f_keptDiagram, f_depth, f_got, f_stamp, a_links, a_ruleCount, a_matches, a_actions, a_changes, a_states, a_places, a_headers, a_tables, a_treated, a_nodes, a_following, a_marked, a_bucket, a_now, a_next, a_layer, a_workLevel, a_workOne, a_workTwo, a_workPhase, a_workLow, a_memoStamp, a_memoOne, a_memoTwo, a_memoLevel, a_memoGot) (a_changes (nI at_).toNatClampNeg) (a_now (a_links (nI q).toNatClampNeg).toNatClampNeg)) := by
        rw [e1, e2, nI_clamp (show p' < 2 ^ 31 by omega)]
        refine And.intro (vp_in_nI hp' (by decide)) (k _ ?_)
        rintro r ⟨f_active2, f_outPlace2, f_outHeader2, f_freeNode2, f_freeCount2, f_keptDiagram2, f_depth2, f_got2, f_stamp2, a_links2, a_ruleCount2, a_matches2, a_actions2, a_changes2, a_states2, a_places2, a_headers2, a_tables2, a_treated2, a_nodes2, a_following2, a_marked2, a_bucket2, a_now2, a_next2, a_layer2, a_workLevel2, a_workOne2, a_workTwo2, a_workPhase2, a_workLow2, a_memoStamp2, a_memoOne2, a_memoTwo2, a_memoLevel2, a_memoGot2⟩ h
        exact h
      exact key
theorem xb_beh {post : Int32 → SX → Prop} {g : Option Nat} {at_ p a q : Nat} (hat : at_ < 120) (hp : p < 20) (ha : a ≤ 5) (hq : q = if a = 5 then p else p / 4 * 4 + a) : ∀ u : SX, gx_actions u at_ = nI a → wX_behind_25 post (nI at_) (md_I g) (nI q) (gx_active u) (gx_outPlace u) (gx_outHeader u) (gx_freeNode u) (gx_freeCount u) (gx_keptDiagram u) (gx_depth u) (gx_got u) (gx_stamp u) (gx_links u) (gx_ruleCount u) (gx_matches u) (gx_actions u) (gx_changes u) (gx_states u) (gx_places u) (gx_headers u) (gx_tables u) (gx_treated u) (gx_nodes u) (gx_following u) (gx_marked u) (gx_bucket u) (gx_now u) (gx_next u) (gx_layer u) (gx_workLevel u) (gx_workOne u) (gx_workTwo u) (gx_workPhase u) (gx_workLow u) (gx_memoStamp u) (gx_memoOne u) (gx_memoTwo u) (gx_memoLevel u) (gx_memoGot u) → wpX_behind post u (nI p) (nI at_) (md_I g) := by
  rintro ⟨f_active, f_outPlace, f_outHeader, f_freeNode, f_freeCount, f_keptDiagram, f_depth, f_got, f_stamp, a_links, a_ruleCount, a_matches, a_actions, a_changes, a_states, a_places, a_headers, a_tables, a_treated, a_nodes, a_following, a_marked, a_bucket, a_now, a_next, a_layer, a_workLevel, a_workOne, a_workTwo, a_workPhase, a_workLow, a_memoStamp, a_memoOne, a_memoTwo, a_memoLevel, a_memoGot⟩ e H
  have hva : vp_in (nI at_) 120 := vp_in_nI hat (by decide)
  have e1 : a_actions (nI at_).toNatClampNeg = nI a := by rw [nI_clamp (by omega)]; exact e
  have key : wX_behind_25 post (nI at_) (md_I g) (nI q) f_active f_outPlace f_outHeader f_freeNode f_freeCount f_keptDiagram f_depth f_got f_stamp a_links a_ruleCount a_matches a_actions a_changes a_states a_places a_headers a_tables a_treated a_nodes a_following a_marked a_bucket a_now a_next a_layer a_workLevel a_workOne a_workTwo a_workPhase a_workLow a_memoStamp a_memoOne a_memoTwo a_memoLevel a_memoGot := H
  refine And.intro hva (pk_eq a 5 (fun z => ?_) (fun z => And.intro hva ?_) e1 rfl)
  · rw [if_pos z] at hq
    rw [hq] at key
    exact key
  · rw [if_neg z] at hq
    rw [e1, nb_m4 hp, nI_add, ← hq]
    exact key
/-- behind, as a work -/
theorem xd_behind {g : Option Nat} {T : TB} {t p i σ : Nat} {W : Nat → Nat → Nat} {nw : Nat → Nat} {F : List Nat} (hg : ∀ s, g = some s → s < 5) (ht : t < 4) (hp : p < 20) (hi : i < 6) (hT : tb_Ok T) (hF : 63 ≤ F.length) (hσ : σ + 1 < 2 ^ 31) (u : SX) (S : st_Ok (bx_S u) F) (hs : ms_k u σ) (H : tx_Hd u t T) (hl : lk_Ok (gx_links u)) (hn : ∀ p, p < 20 → gx_now u p = nI (nw p) ∧ dg_R (bx_S u) F (nw p) (W p)) (ha : tb_a T (6 * (p / 4) + i) ≠ 4) : ∃ (r : Nat) (u' : SX) (F' : List Nat) (σ' : Nat), (∀ post : Int32 → SX → Prop, post (nI r) u' → wpX_behind post u (nI p) (nI (30 * t + 6 * (p / 4) + i)) (md_I g)) ∧ xd_W 63 u F u' F' σ' ∧ σ' ≤ σ + 1 ∧ dg_R (bx_S u') F' r (fun h => rb_v g (lk_f (gx_links u)) T W p i h) := by
  have h30 : 6 * (p / 4) + i < 30 := by omega
  have hr := hT.2 _ h30
  have hd := H.2 _ h30
  rw [← Nat.add_assoc] at hd
  generalize hq : (if tb_a T (6 * (p / 4) + i) = 5 then p else p / 4 * 4 + tb_a T (6 * (p / 4) + i)) = q
  have hq20 : q < 20 := by
    rw [← hq]
    by_cases z : tb_a T (6 * (p / 4) + i) = 5
    · rw [if_pos z]; exact hp
    · rw [if_neg z]; omega
  have hv : ∀ h, rb_v g (lk_f (gx_links u)) T W p i h = (lk_f (gx_links u) q).elim (md_va g q) (fun p' => W p' (ch_v (tb_h T (6 * (p / 4) + i)) h)) := by
    intro h
    unfold rb_v tr_r
    rw [if_neg ha, hq]
    rfl
  cases e : lk_f (gx_links u) q with
  | none =>
    obtain ⟨r, u', F', w1, w2, w3⟩ := xd_leaf (md_va_lt g hq20) (show 0 < F.length by omega) u S hs
    refine ⟨r, u', F', σ, ?_, xd_W_le w2 (by omega), by omega, dg_R_cg w3 (fun h _ => by rw [hv h, e]; rfl)⟩
    intro post hpost
    refine xb_beh (by omega) hp hr.2.1 hq.symm u hd.2.1 (xb_25 (by omega) hq20 hg u hl hd.2.2 (fun _ Q hQ => w1 _ (hQ _ _ hpost)) (fun p' _ e' => absurd (e.symm.trans e') (by simp)))
  | some p' =>
    have hp' : p' < 20 := by
      rcases lk_cs hl hq20 with ⟨l1, _⟩ | ⟨p2, h2, l1, _⟩
      · exact absurd (e.symm.trans l1) (by simp)
      · rw [Option.some.inj (e.symm.trans l1)]; exact h2
    obtain ⟨r, u', F', w1, w2, w3⟩ := xd_change hr.2.2 hF hσ u S hs (hn p' hp').2
    refine ⟨r, u', F', σ + 1, ?_, w2, by omega, dg_R_cg w3 (fun h _ => by rw [hv h, e]; rfl)⟩
    intro post hpost
    refine xb_beh (by omega) hp hr.2.1 hq.symm u hd.2.1 (xb_25 (by omega) hq20 hg u hl hd.2.2 (fun e' => absurd (e.symm.trans e') (by simp)) (fun p2 _ e' Q hQ => ?_))
    rw [← Option.some.inj (e.symm.trans e'), (hn p' hp').1]
    exact w1 _ (hQ _ _ hpost)
end
section
/-! byRules -/
theorem nb_am (x : Int32) : x + (-1) = x - 1 := by rw [Int32.sub_eq_add_neg]
theorem xy_79 {post : Int32 → SX → Prop} {x2 x3 x4 x5 x6 x7 x9 : Int32} {n at_ m : Nat} (hat : at_ < 120) : ∀ u : SX, gx_matches u at_ = nI m → (∀ Q : Int32 → SX → Prop, (∀ r u', wX_byRules_39 post x2 x3 x4 x5 n r (x7 - 1) (gx_active u') (gx_outPlace u') (gx_outHeader u') (gx_freeNode u') (gx_freeCount u') (gx_keptDiagram u') (gx_depth u') (gx_got u') (gx_stamp u') (gx_links u') (gx_ruleCount u') (gx_matches u') (gx_actions u') (gx_changes u') (gx_states u') (gx_places u') (gx_headers u') (gx_tables u') (gx_treated u') (gx_nodes u') (gx_following u') (gx_marked u') (gx_bucket u') (gx_now u') (gx_next u') (gx_layer u') (gx_workLevel u') (gx_workOne u') (gx_workTwo u') (gx_workPhase u') (gx_workLow u') (gx_memoStamp u') (gx_memoOne u') (gx_memoTwo u') (gx_memoLevel u') (gx_memoGot u') → Q r u') → wpX_choose Q u (nI m) x9 x6) → wX_byRules_79 post (wX_byRules_39 post x2 x3 x4 x5 n) x2 x3 x4 x5 x6 x7 (nI at_) x9 (gx_active u) (gx_outPlace u) (gx_outHeader u) (gx_freeNode u) (gx_freeCount u) (gx_keptDiagram u) (gx_depth u) (gx_got u) (gx_stamp u) (gx_links u) (gx_ruleCount u) (gx_matches u) (gx_actions u) (gx_changes u) (gx_states u) (gx_places u) (gx_headers u) (gx_tables u) (gx_treated u) (gx_nodes u) (gx_following u) (gx_marked u) (gx_bucket u) (gx_now u) (gx_next u) (gx_layer u) (gx_workLevel u) (gx_workOne u) (gx_workTwo u) (gx_workPhase u) (gx_workLow u) (gx_memoStamp u) (gx_memoOne u) (gx_memoTwo u) (gx_memoLevel u) (gx_memoGot u) := by
  rintro ⟨f_active, f_outPlace, f_outHeader, f_freeNode, f_freeCount, f_keptDiagram, f_depth, f_got, f_stamp, a_links, a_ruleCount, a_matches, a_actions, a_changes, a_states, a_places, a_headers, a_tables, a_treated, a_nodes, a_following, a_marked, a_bucket, a_now, a_next, a_layer, a_workLevel, a_workOne, a_workTwo, a_workPhase, a_workLow, a_memoStamp, a_memoOne, a_memoTwo, a_memoLevel, a_memoGot⟩ e H
  have e1 : a_matches (nI at_).toNatClampNeg = nI m := by rw [nI_clamp (by omega)]; exact e
  have key : vp_in (nI at_) 120 ∧ (wpX_choose (fun r_47 u => match u with | (f_active2, f_outPlace2, f_outHeader2, f_freeNode2, f_freeCount2, f_keptDiagram2, f_depth2, f_got2, f_stamp2, a_links2, a_ruleCount2, a_matches2, a_actions2, a_changes2, a_states2, a_places2, a_headers2, a_tables2, a_treated2, a_nodes2, a_following2, a_marked2, a_bucket2, a_now2, a_next2, a_layer2, a_workLevel2, a_workOne2, a_workTwo2, a_workPhase2, a_workLow2, a_memoStamp2, a_memoOne2, a_memoTwo2, a_memoLevel2, a_memoGot2) => (∀ x7_84 : Int32, x7_84 = x7 + (-1) → (wX_byRules_39 post x2 x3 x4 x5 n r_47 x7_84 f_active2 f_outPlace2 f_outHeader2 f_freeNode2 f_freeCount2 f_keptDiagram2 f_depth2 f_got2 f_stamp2 a_links2 a_ruleCount2 a_matches2 a_actions2 a_changes2 a_states2 a_places2 a_headers2 a_tables2 a_treated2 a_nodes2 a_following2 a_marked2 a_bucket2 a_now2 a_next2 a_layer2 a_workLevel2 a_workOne2 a_workTwo2 a_workPhase2 a_workLow2 a_memoStamp2 a_memoOne2 a_memoTwo2 a_memoLevel2 a_memoGot2))) (f_active, f_outPlace, f_outHeader, f_freeNode, f_freeCount, f_keptDiagram, f_depth, f_got, f_stamp, a_links, a_ruleCount, a_matches, a_actions, a_changes, a_states, a_places, a_headers, a_tables, a_treated, a_nodes, a_following, a_marked, a_bucket, a_now, a_next, a_layer, a_workLevel, a_workOne, a_workTwo, a_workPhase, a_workLow, a_memoStamp, a_memoOne, a_memoTwo, a_memoLevel, a_memoGot) (a_matches (nI at_).toNatClampNeg) x9 x6) := by
    rw [e1]
    refine And.intro (vp_in_nI hat (by decide)) (H _ ?_)
    rintro r ⟨f_active2, f_outPlace2, f_outHeader2, f_freeNode2, f_freeCount2, f_keptDiagram2, f_depth2, f_got2, f_stamp2, a_links2, a_ruleCount2, a_matches2, a_actions2, a_changes2, a_states2, a_places2, a_headers2, a_tables2, a_treated2, a_nodes2, a_following2, a_marked2, a_bucket2, a_now2, a_next2, a_layer2, a_workLevel2, a_workOne2, a_workTwo2, a_workPhase2, a_workLow2, a_memoStamp2, a_memoOne2, a_memoTwo2, a_memoLevel2, a_memoGot2⟩ h
    exact nm_r (nb_am x7) h
  exact key
theorem xy_s {post : Int32 → SX → Prop} {x2 x3 x5 : Int32} {l n r j at_ a : Nat} (hat : at_ < 120) (hl : 6 * l + j = at_) (ha : a ≤ 5) (hj : j < 2 ^ 31) : ∀ u : SX, gx_actions u at_ = nI a → (a = 4 → wX_byRules_79 post (wX_byRules_39 post x2 x3 (nI l) x5 n) x2 x3 (nI l) x5 (nI r) (nI j) (nI at_) x5 (gx_active u) (gx_outPlace u) (gx_outHeader u) (gx_freeNode u) (gx_freeCount u) (gx_keptDiagram u) (gx_depth u) (gx_got u) (gx_stamp u) (gx_links u) (gx_ruleCount u) (gx_matches u) (gx_actions u) (gx_changes u) (gx_states u) (gx_places u) (gx_headers u) (gx_tables u) (gx_treated u) (gx_nodes u) (gx_following u) (gx_marked u) (gx_bucket u) (gx_now u) (gx_next u) (gx_layer u) (gx_workLevel u) (gx_workOne u) (gx_workTwo u) (gx_workPhase u) (gx_workLow u) (gx_memoStamp u) (gx_memoOne u) (gx_memoTwo u) (gx_memoLevel u) (gx_memoGot u)) → (a ≠ 4 → ∀ Q : Int32 → SX → Prop, (∀ r' u', wX_byRules_79 post (wX_byRules_39 post x2 x3 (nI l) x5 n) x2 x3 (nI l) x5 (nI r) (nI j) (nI at_) r' (gx_active u') (gx_outPlace u') (gx_outHeader u') (gx_freeNode u') (gx_freeCount u') (gx_keptDiagram u') (gx_depth u') (gx_got u') (gx_stamp u') (gx_links u') (gx_ruleCount u') (gx_matches u') (gx_actions u') (gx_changes u') (gx_states u') (gx_places u') (gx_headers u') (gx_tables u') (gx_treated u') (gx_nodes u') (gx_following u') (gx_marked u') (gx_bucket u') (gx_now u') (gx_next u') (gx_layer u') (gx_workLevel u') (gx_workOne u') (gx_workTwo u') (gx_workPhase u') (gx_workLow u') (gx_memoStamp u') (gx_memoOne u') (gx_memoTwo u') (gx_memoLevel u') (gx_memoGot u') → Q r' u') → wpX_behind Q u x2 (nI at_) x3) → wX_byRules_39 post x2 x3 (nI l) x5 (n + 1) (nI r) (nI j) (gx_active u) (gx_outPlace u) (gx_outHeader u) (gx_freeNode u) (gx_freeCount u) (gx_keptDiagram u) (gx_depth u) (gx_got u) (gx_stamp u) (gx_links u) (gx_ruleCount u) (gx_matches u) (gx_actions u) (gx_changes u) (gx_states u) (gx_places u) (gx_headers u) (gx_tables u) (gx_treated u) (gx_nodes u) (gx_following u) (gx_marked u) (gx_bucket u) (gx_now u) (gx_next u) (gx_layer u) (gx_workLevel u) (gx_workOne u) (gx_workTwo u) (gx_workPhase u) (gx_workLow u) (gx_memoStamp u) (gx_memoOne u) (gx_memoTwo u) (gx_memoLevel u) (gx_memoGot u) := by
  rintro ⟨f_active, f_outPlace, f_outHeader, f_freeNode, f_freeCount, f_keptDiagram, f_depth, f_got, f_stamp, a_links, a_ruleCount, a_matches, a_actions, a_changes, a_states, a_places, a_headers, a_tables, a_treated, a_nodes, a_following, a_marked, a_bucket, a_now, a_next, a_layer, a_workLevel, a_workOne, a_workTwo, a_workPhase, a_workLow, a_memoStamp, a_memoOne, a_memoTwo, a_memoLevel, a_memoGot⟩ e H4 HN
  have e1 : a_actions (nI at_).toNatClampNeg = nI a := by rw [nI_clamp (by omega)]; exact e
  have e2 : (6 : Int32) * nI l + nI j = nI at_ := by rw [nb_6, hl]
  have key : wX_byRules_39 post x2 x3 (nI l) x5 (n + 1) (nI r) (nI j) f_active f_outPlace f_outHeader f_freeNode f_freeCount f_keptDiagram f_depth f_got f_stamp a_links a_ruleCount a_matches a_actions a_changes a_states a_places a_headers a_tables a_treated a_nodes a_following a_marked a_bucket a_now a_next a_layer a_workLevel a_workOne a_workTwo a_workPhase a_workLow a_memoStamp a_memoOne a_memoTwo a_memoLevel a_memoGot := by
    refine br_f (nI_pos hj) (nm_r e2 (And.intro (vp_in_nI hat (by decide)) (pk_eq a 4 (fun z => ?_) (fun z => ?_) e1 rfl)))
    · exact H4 z
    · refine HN z _ ?_
      rintro r' ⟨f_active2, f_outPlace2, f_outHeader2, f_freeNode2, f_freeCount2, f_keptDiagram2, f_depth2, f_got2, f_stamp2, a_links2, a_ruleCount2, a_matches2, a_actions2, a_changes2, a_states2, a_places2, a_headers2, a_tables2, a_treated2, a_nodes2, a_following2, a_marked2, a_bucket2, a_now2, a_next2, a_layer2, a_workLevel2, a_workOne2, a_workTwo2, a_workPhase2, a_workLow2, a_memoStamp2, a_memoOne2, a_memoTwo2, a_memoLevel2, a_memoGot2⟩ h
      exact h
  exact key
theorem xd_rl {g : Option Nat} {T : TB} {t p ms : Nat} {W : Nat → Nat → Nat} {nw : Nat → Nat} {u0 : SX} (hg : ∀ s, g = some s → s < 5) (ht : t < 4) (hp : p < 20) (hT : tb_Ok T) (H0 : tx_Hd u0 t T) (hl0 : lk_Ok (gx_links u0)) (hn0 : ∀ p, p < 20 → gx_now u0 p = nI (nw p)) : ∀ j, j ≤ tb_c T (p / 4) → ∀ (u : SX) (F : List Nat) (σ r : Nat), bx_C u = bx_C u0 → bx_D u = bx_D u0 → st_Ok (bx_S u) F → ms_k u σ → (∀ p, p < 20 → dg_R (bx_S u) F (nw p) (W p)) → dg_R (bx_S u) F ms (fun _ => md_vd g) → dg_R (bx_S u) F r (fun h => rb_r g (lk_f (gx_links u0)) T W p j h) → 126 * j ≤ F.length → σ + 2 * j < 2 ^ 31 → ∃ (r' : Nat) (u' : SX) (F' : List Nat) (σ' : Nat), (∀ post : Int32 → SX → Prop, post (nI r') u' → wX_byRules_39 post (nI p) (md_I g) (nI (5 * t + p / 4)) (nI ms) (j + 1) (nI r) (nI j - 1) (gx_active u) (gx_outPlace u) (gx_outHeader u) (gx_freeNode u) (gx_freeCount u) (gx_keptDiagram u) (gx_depth u) (gx_got u) (gx_stamp u) (gx_links u) (gx_ruleCount u) (gx_matches u) (gx_actions u) (gx_changes u) (gx_states u) (gx_places u) (gx_headers u) (gx_tables u) (gx_treated u) (gx_nodes u) (gx_following u) (gx_marked u) (gx_bucket u) (gx_now u) (gx_next u) (gx_layer u) (gx_workLevel u) (gx_workOne u) (gx_workTwo u) (gx_workPhase u) (gx_workLow u) (gx_memoStamp u) (gx_memoOne u) (gx_memoTwo u) (gx_memoLevel u) (gx_memoGot u)) ∧ xd_W (126 * j) u F u' F' σ' ∧ σ' ≤ σ + 2 * j ∧ dg_R (bx_S u') F' r' (fun h => rb_r g (lk_f (gx_links u0)) T W p 0 h) := by
  intro j
  induction j with
  | zero =>
    intro _ u F σ r hC hD S hs hn hm hr _ _
    refine ⟨r, u, F, σ, ?_, xd_W_r S hs, by omega, hr⟩
    intro post hpost
    exact br_t (by decide) hpost
  | succ j ih =>
    intro hj u F σ r hC hD S hs hn hm hr hF hσ
    have h6 := hT.1 (p / 4) (by omega)
    have h30 : 6 * (p / 4) + j < 30 := by omega
    have hrr := hT.2 _ h30
    have H := xC_Hd hC H0
    have hd := H.2 _ h30
    rw [← Nat.add_assoc] at hd
    have hl : lk_Ok (gx_links u) := by rw [xC_links hC]; exact hl0
    -- the body
    have hb : ∃ (b : Nat) (u1 : SX) (F1 : List Nat) (σ1 : Nat), xd_W 63 u F u1 F1 σ1 ∧ σ1 ≤ σ + 1 ∧ dg_R (bx_S u1) F1 b (fun h => rb_v g (lk_f (gx_links u0)) T W p j h) ∧ ∀ post : Int32 → SX → Prop, wX_byRules_79 post (wX_byRules_39 post (nI p) (md_I g) (nI (5 * t + p / 4)) (nI ms) (j + 1)) (nI p) (md_I g) (nI (5 * t + p / 4)) (nI ms) (nI r) (nI j) (nI (30 * t + 6 * (p / 4) + j)) (nI b) (gx_active u1) (gx_outPlace u1) (gx_outHeader u1) (gx_freeNode u1) (gx_freeCount u1) (gx_keptDiagram u1) (gx_depth u1) (gx_got u1) (gx_stamp u1) (gx_links u1) (gx_ruleCount u1) (gx_matches u1) (gx_actions u1) (gx_changes u1) (gx_states u1) (gx_places u1) (gx_headers u1) (gx_tables u1) (gx_treated u1) (gx_nodes u1) (gx_following u1) (gx_marked u1) (gx_bucket u1) (gx_now u1) (gx_next u1) (gx_layer u1) (gx_workLevel u1) (gx_workOne u1) (gx_workTwo u1) (gx_workPhase u1) (gx_workLow u1) (gx_memoStamp u1) (gx_memoOne u1) (gx_memoTwo u1) (gx_memoLevel u1) (gx_memoGot u1) → wX_byRules_39 post (nI p) (md_I g) (nI (5 * t + p / 4)) (nI ms) (j + 1 + 1) (nI r) (nI (j + 1) - 1) (gx_active u) (gx_outPlace u) (gx_outHeader u) (gx_freeNode u) (gx_freeCount u) (gx_keptDiagram u) (gx_depth u) (gx_got u) (gx_stamp u) (gx_links u) (gx_ruleCount u) (gx_matches u) (gx_actions u) (gx_changes u) (gx_states u) (gx_places u) (gx_headers u) (gx_tables u) (gx_treated u) (gx_nodes u) (gx_following u) (gx_marked u) (gx_bucket u) (gx_now u) (gx_next u) (gx_layer u) (gx_workLevel u) (gx_workOne u) (gx_workTwo u) (gx_workPhase u) (gx_workLow u) (gx_memoStamp u) (gx_memoOne u) (gx_memoTwo u) (gx_memoLevel u) (gx_memoGot u) := by
      by_cases ha : tb_a T (6 * (p / 4) + j) = 4
      · refine ⟨ms, u, F, σ, xd_W_le (xd_W_r S hs) (by omega), by omega, dg_R_cg hm (fun h _ => ?_), ?_⟩
        · unfold rb_v tr_r
          rw [if_pos ha]; rfl
        · intro post h
          rw [nI_pred]
          exact xy_s (by omega) (by omega) hrr.2.1 (by omega) u hd.2.1 (fun _ => h) (fun z => absurd ha z)
      · obtain ⟨b, u1, F1, σ1, w1, w2, w3, w4⟩ := xd_behind (i := j) hg ht hp (by omega) hT (by omega) (by omega) u S hs H hl (fun p hp' => ⟨by rw [xD_now hD]; exact hn0 p hp', hn p hp'⟩) ha
        rw [xC_links hC] at w4
        refine ⟨b, u1, F1, σ1, w2, w3, w4, ?_⟩
        intro post h
        rw [nI_pred]
        exact xy_s (by omega) (by omega) hrr.2.1 (by omega) u hd.2.1 (fun z => absurd z ha) (fun _ Q hQ => w1 _ (hQ _ _ h))
    obtain ⟨b, u1, F1, σ1, w2, w3, w4, w1⟩ := hb
    obtain ⟨S1, E1, l1, C1, D1, k1⟩ := w2
    obtain ⟨r2, u2, F2, v1, v2, v3⟩ := xd_choose (m := tb_m T (6 * (p / 4) + j)) hrr.1 (F := F1) (by omega) (σ := σ1) (by omega) u1 S1 k1 w4 (dg_R_E S E1 hr)
    have v2' := v2
    obtain ⟨S2, E2, l2, C2, D2, k2⟩ := v2
    have E02 := st_E_t E1 E2
    obtain ⟨r', u', F', σ', z1, z2, z3, z4⟩ := ih (by omega) u2 F2 (σ1 + 1) r2 (C2.trans (C1.trans hC)) (D2.trans (D1.trans hD)) S2 k2 (fun p hp' => dg_R_E S E02 (hn p hp')) (dg_R_E S E02 hm) (dg_R_cg v3 (fun h _ => (rb_s (j := j) (by omega) (by omega)).symm)) (by omega) (by omega)
    refine ⟨r', u', F', σ', ?_, xd_W_le (xd_W_t (xd_W_t ⟨S1, E1, l1, C1, D1, k1⟩ v2') z2) (by omega), by omega, z4⟩
    intro post hpost
    have e1 : gx_matches u1 (30 * t + 6 * (p / 4) + j) = nI (tb_m T (6 * (p / 4) + j)) := by rw [xC_mat C1]; exact hd.1
    exact w1 post (xy_79 (by omega) u1 e1 (fun Q hQ => v1 _ (hQ _ _ (z1 post hpost))))
theorem xy_19 {post : Int32 → SX → Prop} {x2 x3 : Int32} {l v : Nat} (hl : l < 20) : ∀ u : SX, (∀ Q : Int32 → SX → Prop, (∀ r u', (∃ n39, wX_byRules_39 post x2 x3 (nI l) r n39 r (gx_ruleCount u' l - 1) (gx_active u') (gx_outPlace u') (gx_outHeader u') (gx_freeNode u') (gx_freeCount u') (gx_keptDiagram u') (gx_depth u') (gx_got u') (gx_stamp u') (gx_links u') (gx_ruleCount u') (gx_matches u') (gx_actions u') (gx_changes u') (gx_states u') (gx_places u') (gx_headers u') (gx_tables u') (gx_treated u') (gx_nodes u') (gx_following u') (gx_marked u') (gx_bucket u') (gx_now u') (gx_next u') (gx_layer u') (gx_workLevel u') (gx_workOne u') (gx_workTwo u') (gx_workPhase u') (gx_workLow u') (gx_memoStamp u') (gx_memoOne u') (gx_memoTwo u') (gx_memoLevel u') (gx_memoGot u')) → Q r u') → wpX_leaf Q u (nI v)) → wX_byRules_19 post x2 x3 (nI l) (nI v) (gx_active u) (gx_outPlace u) (gx_outHeader u) (gx_freeNode u) (gx_freeCount u) (gx_keptDiagram u) (gx_depth u) (gx_got u) (gx_stamp u) (gx_links u) (gx_ruleCount u) (gx_matches u) (gx_actions u) (gx_changes u) (gx_states u) (gx_places u) (gx_headers u) (gx_tables u) (gx_treated u) (gx_nodes u) (gx_following u) (gx_marked u) (gx_bucket u) (gx_now u) (gx_next u) (gx_layer u) (gx_workLevel u) (gx_workOne u) (gx_workTwo u) (gx_workPhase u) (gx_workLow u) (gx_memoStamp u) (gx_memoOne u) (gx_memoTwo u) (gx_memoLevel u) (gx_memoGot u) := by
  rintro ⟨f_active, f_outPlace, f_outHeader, f_freeNode, f_freeCount, f_keptDiagram, f_depth, f_got, f_stamp, a_links, a_ruleCount, a_matches, a_actions, a_changes, a_states, a_places, a_headers, a_tables, a_treated, a_nodes, a_following, a_marked, a_bucket, a_now, a_next, a_layer, a_workLevel, a_workOne, a_workTwo, a_workPhase, a_workLow, a_memoStamp, a_memoOne, a_memoTwo, a_memoLevel, a_memoGot⟩ H
  refine H _ ?_
  rintro r ⟨f_active2, f_outPlace2, f_outHeader2, f_freeNode2, f_freeCount2, f_keptDiagram2, f_depth2, f_got2, f_stamp2, a_links2, a_ruleCount2, a_matches2, a_actions2, a_changes2, a_states2, a_places2, a_headers2, a_tables2, a_treated2, a_nodes2, a_following2, a_marked2, a_bucket2, a_now2, a_next2, a_layer2, a_workLevel2, a_workOne2, a_workTwo2, a_workPhase2, a_workLow2, a_memoStamp2, a_memoOne2, a_memoTwo2, a_memoLevel2, a_memoGot2⟩ h
  refine And.intro (vp_in_nI hl (by decide)) ?_
  rw [nI_clamp (by omega)]
  exact nm_e h
theorem xy_by {post : Int32 → SX → Prop} {g : Option Nat} {t p : Nat} (hg : ∀ s, g = some s → s < 5) (hp : p < 20) : ∀ u : SX, wX_byRules_19 post (nI p) (md_I g) (nI (5 * t + p / 4)) (nI (md_vd g)) (gx_active u) (gx_outPlace u) (gx_outHeader u) (gx_freeNode u) (gx_freeCount u) (gx_keptDiagram u) (gx_depth u) (gx_got u) (gx_stamp u) (gx_links u) (gx_ruleCount u) (gx_matches u) (gx_actions u) (gx_changes u) (gx_states u) (gx_places u) (gx_headers u) (gx_tables u) (gx_treated u) (gx_nodes u) (gx_following u) (gx_marked u) (gx_bucket u) (gx_now u) (gx_next u) (gx_layer u) (gx_workLevel u) (gx_workOne u) (gx_workTwo u) (gx_workPhase u) (gx_workLow u) (gx_memoStamp u) (gx_memoOne u) (gx_memoTwo u) (gx_memoLevel u) (gx_memoGot u) → wpX_byRules post u (nI t) (nI p) (md_I g) := by
  rintro ⟨f_active, f_outPlace, f_outHeader, f_freeNode, f_freeCount, f_keptDiagram, f_depth, f_got, f_stamp, a_links, a_ruleCount, a_matches, a_actions, a_changes, a_states, a_places, a_headers, a_tables, a_treated, a_nodes, a_following, a_marked, a_bucket, a_now, a_next, a_layer, a_workLevel, a_workOne, a_workTwo, a_workPhase, a_workLow, a_memoStamp, a_memoOne, a_memoTwo, a_memoLevel, a_memoGot⟩ H
  have H' : wX_byRules_19 post (nI p) (md_I g) (nI (5 * t + p / 4)) (nI (md_vd g)) f_active f_outPlace f_outHeader f_freeNode f_freeCount f_keptDiagram f_depth f_got f_stamp a_links a_ruleCount a_matches a_actions a_changes a_states a_places a_headers a_tables a_treated a_nodes a_following a_marked a_bucket a_now a_next a_layer a_workLevel a_workOne a_workTwo a_workPhase a_workLow a_memoStamp a_memoOne a_memoTwo a_memoLevel a_memoGot := H
  have key : wpX_listOf (fun r_1 => (((0 ≤ md_I g → (wX_byRules_19 post (nI p) (md_I g) r_1 0 f_active f_outPlace f_outHeader f_freeNode f_freeCount f_keptDiagram f_depth f_got f_stamp a_links a_ruleCount a_matches a_actions a_changes a_states a_places a_headers a_tables a_treated a_nodes a_following a_marked a_bucket a_now a_next a_layer a_workLevel a_workOne a_workTwo a_workPhase a_workLow a_memoStamp a_memoOne a_memoTwo a_memoLevel a_memoGot)) ∧ (¬ 0 ≤ md_I g → (wX_byRules_19 post (nI p) (md_I g) r_1 1 f_active f_outPlace f_outHeader f_freeNode f_freeCount f_keptDiagram f_depth f_got f_stamp a_links a_ruleCount a_matches a_actions a_changes a_states a_places a_headers a_tables a_treated a_nodes a_following a_marked a_bucket a_now a_next a_layer a_workLevel a_workOne a_workTwo a_workPhase a_workLow a_memoStamp a_memoOne a_memoTwo a_memoLevel a_memoGot))))) (nI t) (nI p >>> ((2 : Int32) &&& 31)) := by
    rw [nb_shr2 (by omega)]
    unfold wpX_listOf
    rw [nb_5m]
    cases g with
    | none => exact br_f (by decide) H'
    | some s => exact br_t (nI_pos' (by have := hg s rfl; omega)) H'
  exact key
/-- byRules, as a work -/
theorem xd_by {g : Option Nat} {T : TB} {t p σ k : Nat} {nw : Nat → Nat} {F : List Nat} (hg : ∀ s, g = some s → s < 5) (ht : t < 4) (hp : p < 20) (hT : tb_Ok T) (hF : 757 ≤ F.length) (hσ : σ + 12 < 2 ^ 31) (hst : md_st g (p / 4) = false) (u : SX) (S : st_Ok (bx_S u) F) (hs : ms_k u σ) (H : tx_Hd u t T) (hl : lk_Ok (gx_links u)) (hn : ∀ p, p < 20 → gx_now u p = nI (nw p) ∧ dg_R (bx_S u) F (nw p) (fw_m g (lk_f (gx_links u)) T k p)) : ∃ (r : Nat) (u' : SX) (F' : List Nat) (σ' : Nat), (∀ post : Int32 → SX → Prop, post (nI r) u' → wpX_byRules post u (nI t) (nI p) (md_I g)) ∧ xd_W 757 u F u' F' σ' ∧ σ' ≤ σ + 12 ∧ dg_R (bx_S u') F' r (fw_m g (lk_f (gx_links u)) T (k + 1) p) := by
  have hvd : md_vd g < 384 := by
    cases g with
    | none => show 1 < 384; omega
    | some s => show 0 < 384; omega
  have h6 := hT.1 (p / 4) (by omega)
  obtain ⟨ms, u1, F1, w1, w2, w3⟩ := xd_leaf hvd (show 0 < F.length by omega) u S hs
  have w2' := w2
  obtain ⟨S1, E1, l1, C1, D1, k1⟩ := w2
  obtain ⟨r', u', F', σ', z1, z2, z3, z4⟩ := xd_rl (g := g) (ms := ms) (W := fw_m g (lk_f (gx_links u)) T k) (nw := nw) (u0 := u) hg ht hp hT H hl (fun p hp' => (hn p hp').1) (tb_c T (p / 4)) (Nat.le_refl _) u1 F1 σ ms C1 D1 S1 k1 (fun p hp' => dg_R_E S E1 (hn p hp').2) w3 (dg_R_cg w3 (fun h _ => rb_end.symm)) (by omega) (by omega)
  refine ⟨r', u', F', σ', ?_, xd_W_le (xd_W_t w2' z2) (by omega), by omega, dg_R_cg z4 (fun h _ => rb_0 hst)⟩
  intro post hpost
  refine xy_by hg hp u (xy_19 (by omega) u (fun Q hQ => w1 _ (hQ _ _ ⟨tb_c T (p / 4) + 1, ?_⟩)))
  rw [show gx_ruleCount u1 (5 * t + p / 4) = nI (tb_c T (p / 4)) from by rw [xC_cnt C1]; exact H.1 (p / 4) (by omega)]
  exact z1 post hpost
end
section
/-! solve -/
def so_I (g : Option Nat) (T : TB) (u0 : SX) (kd : Option Nat) (fk : Nat → Nat) (k : Nat) (nw : Nat → Nat) (u : SX) (F : List Nat) (σ : Nat) : Prop := st_Ok (bx_S u) F ∧ ms_k u σ ∧ bx_C u = bx_C u0 ∧ (∀ p, p < 20 → gx_now u p = nI (nw p) ∧ dg_R (bx_S u) F (nw p) (fw_m g (lk_f (gx_links u0)) T k p)) ∧ gx_keptDiagram u = kd.elim (-1) nI ∧ ∀ r, kd = some r → dg_R (bx_S u) F r fk
theorem dg_R_N {u u' : SX} {F F' : List Nat} (e : gx_nodes u' = gx_nodes u) {r : Nat} {f : Nat → Nat} (ha : st_al F' r) (h : dg_R (bx_S u) F r f) : dg_R (bx_S u') F' r f := by
  have e1 : st_nd (bx_S u') = st_nd (bx_S u) := by
    funext n
    show (gx_nodes u' n).toNatClampNeg = (gx_nodes u n).toNatClampNeg
    rw [e]
  refine ⟨ha, fun x hx => ?_⟩
  rw [e1]
  exact h.2 x hx
theorem ms_M {u u' : SX} {σ : Nat} (e : bx_M u' = bx_M u) (h : ms_k u σ) : ms_k u' σ := ⟨(xk_s e).trans h.1, fun i hi => by rw [xk_ms e]; exact h.2 i hi⟩
theorem so_s {post : SX → Prop} {J : _} {x1 x2 x4 : Int32} {n i : Nat} (hi : i < 20) : ∀ u : SX, (∀ Q : SX → Prop, (∀ u' : SX, ((nI (i / 4) = x2 → ∀ Q' : Int32 → SX → Prop, (∀ r u2, wX_solve_52 post J x1 x2 x4 n (nI (i + 1)) (gx_active (sx_next u2 (upd (gx_next u2) i r))) (gx_outPlace (sx_next u2 (upd (gx_next u2) i r))) (gx_outHeader (sx_next u2 (upd (gx_next u2) i r))) (gx_freeNode (sx_next u2 (upd (gx_next u2) i r))) (gx_freeCount (sx_next u2 (upd (gx_next u2) i r))) (gx_keptDiagram (sx_next u2 (upd (gx_next u2) i r))) (gx_depth (sx_next u2 (upd (gx_next u2) i r))) (gx_got (sx_next u2 (upd (gx_next u2) i r))) (gx_stamp (sx_next u2 (upd (gx_next u2) i r))) (gx_links (sx_next u2 (upd (gx_next u2) i r))) (gx_ruleCount (sx_next u2 (upd (gx_next u2) i r))) (gx_matches (sx_next u2 (upd (gx_next u2) i r))) (gx_actions (sx_next u2 (upd (gx_next u2) i r))) (gx_changes (sx_next u2 (upd (gx_next u2) i r))) (gx_states (sx_next u2 (upd (gx_next u2) i r))) (gx_places (sx_next u2 (upd (gx_next u2) i r))) (gx_headers (sx_next u2 (upd (gx_next u2) i r))) (gx_tables (sx_next u2 (upd (gx_next u2) i r))) (gx_treated (sx_next u2 (upd (gx_next u2) i r))) (gx_nodes (sx_next u2 (upd (gx_next u2) i r))) (gx_following (sx_next u2 (upd (gx_next u2) i r))) (gx_marked (sx_next u2 (upd (gx_next u2) i r))) (gx_bucket (sx_next u2 (upd (gx_next u2) i r))) (gx_now (sx_next u2 (upd (gx_next u2) i r))) (gx_next (sx_next u2 (upd (gx_next u2) i r))) (gx_layer (sx_next u2 (upd (gx_next u2) i r))) (gx_workLevel (sx_next u2 (upd (gx_next u2) i r))) (gx_workOne (sx_next u2 (upd (gx_next u2) i r))) (gx_workTwo (sx_next u2 (upd (gx_next u2) i r))) (gx_workPhase (sx_next u2 (upd (gx_next u2) i r))) (gx_workLow (sx_next u2 (upd (gx_next u2) i r))) (gx_memoStamp (sx_next u2 (upd (gx_next u2) i r))) (gx_memoOne (sx_next u2 (upd (gx_next u2) i r))) (gx_memoTwo (sx_next u2 (upd (gx_next u2) i r))) (gx_memoLevel (sx_next u2 (upd (gx_next u2) i r))) (gx_memoGot (sx_next u2 (upd (gx_next u2) i r))) → Q' r u2) → wpX_leaf Q' u' 1) ∧ (¬ nI (i / 4) = x2 → ∀ Q' : Int32 → SX → Prop, (∀ r u2, wX_solve_52 post J x1 x2 x4 n (nI (i + 1)) (gx_active (sx_next u2 (upd (gx_next u2) i r))) (gx_outPlace (sx_next u2 (upd (gx_next u2) i r))) (gx_outHeader (sx_next u2 (upd (gx_next u2) i r))) (gx_freeNode (sx_next u2 (upd (gx_next u2) i r))) (gx_freeCount (sx_next u2 (upd (gx_next u2) i r))) (gx_keptDiagram (sx_next u2 (upd (gx_next u2) i r))) (gx_depth (sx_next u2 (upd (gx_next u2) i r))) (gx_got (sx_next u2 (upd (gx_next u2) i r))) (gx_stamp (sx_next u2 (upd (gx_next u2) i r))) (gx_links (sx_next u2 (upd (gx_next u2) i r))) (gx_ruleCount (sx_next u2 (upd (gx_next u2) i r))) (gx_matches (sx_next u2 (upd (gx_next u2) i r))) (gx_actions (sx_next u2 (upd (gx_next u2) i r))) (gx_changes (sx_next u2 (upd (gx_next u2) i r))) (gx_states (sx_next u2 (upd (gx_next u2) i r))) (gx_places (sx_next u2 (upd (gx_next u2) i r))) (gx_headers (sx_next u2 (upd (gx_next u2) i r))) (gx_tables (sx_next u2 (upd (gx_next u2) i r))) (gx_treated (sx_next u2 (upd (gx_next u2) i r))) (gx_nodes (sx_next u2 (upd (gx_next u2) i r))) (gx_following (sx_next u2 (upd (gx_next u2) i r))) (gx_marked (sx_next u2 (upd (gx_next u2) i r))) (gx_bucket (sx_next u2 (upd (gx_next u2) i r))) (gx_now (sx_next u2 (upd (gx_next u2) i r))) (gx_next (sx_next u2 (upd (gx_next u2) i r))) (gx_layer (sx_next u2 (upd (gx_next u2) i r))) (gx_workLevel (sx_next u2 (upd (gx_next u2) i r))) (gx_workOne (sx_next u2 (upd (gx_next u2) i r))) (gx_workTwo (sx_next u2 (upd (gx_next u2) i r))) (gx_workPhase (sx_next u2 (upd (gx_next u2) i r))) (gx_workLow (sx_next u2 (upd (gx_next u2) i r))) (gx_memoStamp (sx_next u2 (upd (gx_next u2) i r))) (gx_memoOne (sx_next u2 (upd (gx_next u2) i r))) (gx_memoTwo (sx_next u2 (upd (gx_next u2) i r))) (gx_memoLevel (sx_next u2 (upd (gx_next u2) i r))) (gx_memoGot (sx_next u2 (upd (gx_next u2) i r))) → Q' r u2) → wpX_byRules Q' u' x1 (nI i) x2)) → Q u') → wpX_collect Q u (nI i)) → wX_solve_52 post J x1 x2 x4 (n + 1) (nI i) (gx_active u) (gx_outPlace u) (gx_outHeader u) (gx_freeNode u) (gx_freeCount u) (gx_keptDiagram u) (gx_depth u) (gx_got u) (gx_stamp u) (gx_links u) (gx_ruleCount u) (gx_matches u) (gx_actions u) (gx_changes u) (gx_states u) (gx_places u) (gx_headers u) (gx_tables u) (gx_treated u) (gx_nodes u) (gx_following u) (gx_marked u) (gx_bucket u) (gx_now u) (gx_next u) (gx_layer u) (gx_workLevel u) (gx_workOne u) (gx_workTwo u) (gx_workPhase u) (gx_workLow u) (gx_memoStamp u) (gx_memoOne u) (gx_memoTwo u) (gx_memoLevel u) (gx_memoGot u) := by
  rintro ⟨f_active, f_outPlace, f_outHeader, f_freeNode, f_freeCount, f_keptDiagram, f_depth, f_got, f_stamp, a_links, a_ruleCount, a_matches, a_actions, a_changes, a_states, a_places, a_headers, a_tables, a_treated, a_nodes, a_following, a_marked, a_bucket, a_now, a_next, a_layer, a_workLevel, a_workOne, a_workTwo, a_workPhase, a_workLow, a_memoStamp, a_memoOne, a_memoTwo, a_memoLevel, a_memoGot⟩ H
  have hv : vp_in (nI i) 20 := vp_in_nI hi (by decide)
  have hc : (nI i).toNatClampNeg = i := nI_clamp (by omega)
  have key : wX_solve_52 post J x1 x2 x4 (n + 1) (nI i) f_active f_outPlace f_outHeader f_freeNode f_freeCount f_keptDiagram f_depth f_got f_stamp a_links a_ruleCount a_matches a_actions a_changes a_states a_places a_headers a_tables a_treated a_nodes a_following a_marked a_bucket a_now a_next a_layer a_workLevel a_workOne a_workTwo a_workPhase a_workLow a_memoStamp a_memoOne a_memoTwo a_memoLevel a_memoGot := by
    refine br_f (nI_ge (b := 20) (by omega) (by decide)) (H _ ?_)
    rintro ⟨f_active2, f_outPlace2, f_outHeader2, f_freeNode2, f_freeCount2, f_keptDiagram2, f_depth2, f_got2, f_stamp2, a_links2, a_ruleCount2, a_matches2, a_actions2, a_changes2, a_states2, a_places2, a_headers2, a_tables2, a_treated2, a_nodes2, a_following2, a_marked2, a_bucket2, a_now2, a_next2, a_layer2, a_workLevel2, a_workOne2, a_workTwo2, a_workPhase2, a_workLow2, a_memoStamp2, a_memoOne2, a_memoTwo2, a_memoLevel2, a_memoGot2⟩ ⟨h1, h2⟩
    have k2 : ((nI i >>> ((2 : Int32) &&& 31) = x2 → (wpX_leaf (fun r_93 u => match u with | (f_active3, f_outPlace3, f_outHeader3, f_freeNode3, f_freeCount3, f_keptDiagram3, f_depth3, f_got3, f_stamp3, a_links3, a_ruleCount3, a_matches3, a_actions3, a_changes3, a_states3, a_places3, a_headers3, a_tables3, a_treated3, a_nodes3, a_following3, a_marked3, a_bucket3, a_now3, a_next3, a_layer3, a_workLevel3, a_workOne3, a_workTwo3, a_workPhase3, a_workLow3, a_memoStamp3, a_memoOne3, a_memoTwo3, a_memoLevel3, a_memoGot3) => (vp_in (nI i) 20 ∧ ∀ a_next_131 : Nat → Int32, a_next_131 = upd a_next3 (nI i).toNatClampNeg r_93 → (∀ x5_132 : Int32, x5_132 = nI i + 1 → (wX_solve_52 post J x1 x2 x4 n x5_132 f_active3 f_outPlace3 f_outHeader3 f_freeNode3 f_freeCount3 f_keptDiagram3 f_depth3 f_got3 f_stamp3 a_links3 a_ruleCount3 a_matches3 a_actions3 a_changes3 a_states3 a_places3 a_headers3 a_tables3 a_treated3 a_nodes3 a_following3 a_marked3 a_bucket3 a_now3 a_next_131 a_layer3 a_workLevel3 a_workOne3 a_workTwo3 a_workPhase3 a_workLow3 a_memoStamp3 a_memoOne3 a_memoTwo3 a_memoLevel3 a_memoGot3)))) (f_active2, f_outPlace2, f_outHeader2, f_freeNode2, f_freeCount2, f_keptDiagram2, f_depth2, f_got2, f_stamp2, a_links2, a_ruleCount2, a_matches2, a_actions2, a_changes2, a_states2, a_places2, a_headers2, a_tables2, a_treated2, a_nodes2, a_following2, a_marked2, a_bucket2, a_now2, a_next2, a_layer2, a_workLevel2, a_workOne2, a_workTwo2, a_workPhase2, a_workLow2, a_memoStamp2, a_memoOne2, a_memoTwo2, a_memoLevel2, a_memoGot2) 1)) ∧ (¬ nI i >>> ((2 : Int32) &&& 31) = x2 → (wpX_byRules (fun r_93 u => match u with | (f_active3, f_outPlace3, f_outHeader3, f_freeNode3, f_freeCount3, f_keptDiagram3, f_depth3, f_got3, f_stamp3, a_links3, a_ruleCount3, a_matches3, a_actions3, a_changes3, a_states3, a_places3, a_headers3, a_tables3, a_treated3, a_nodes3, a_following3, a_marked3, a_bucket3, a_now3, a_next3, a_layer3, a_workLevel3, a_workOne3, a_workTwo3, a_workPhase3, a_workLow3, a_memoStamp3, a_memoOne3, a_memoTwo3, a_memoLevel3, a_memoGot3) => (vp_in (nI i) 20 ∧ ∀ a_next_131 : Nat → Int32, a_next_131 = upd a_next3 (nI i).toNatClampNeg r_93 → (∀ x5_132 : Int32, x5_132 = nI i + 1 → (wX_solve_52 post J x1 x2 x4 n x5_132 f_active3 f_outPlace3 f_outHeader3 f_freeNode3 f_freeCount3 f_keptDiagram3 f_depth3 f_got3 f_stamp3 a_links3 a_ruleCount3 a_matches3 a_actions3 a_changes3 a_states3 a_places3 a_headers3 a_tables3 a_treated3 a_nodes3 a_following3 a_marked3 a_bucket3 a_now3 a_next_131 a_layer3 a_workLevel3 a_workOne3 a_workTwo3 a_workPhase3 a_workLow3 a_memoStamp3 a_memoOne3 a_memoTwo3 a_memoLevel3 a_memoGot3)))) (f_active2, f_outPlace2, f_outHeader2, f_freeNode2, f_freeCount2, f_keptDiagram2, f_depth2, f_got2, f_stamp2, a_links2, a_ruleCount2, a_matches2, a_actions2, a_changes2, a_states2, a_places2, a_headers2, a_tables2, a_treated2, a_nodes2, a_following2, a_marked2, a_bucket2, a_now2, a_next2, a_layer2, a_workLevel2, a_workOne2, a_workTwo2, a_workPhase2, a_workLow2, a_memoStamp2, a_memoOne2, a_memoTwo2, a_memoLevel2, a_memoGot2) x1 (nI i) x2))) := by
      rw [nb_shr2 (by omega)]
      refine br_c (fun z => h1 z _ ?_) (fun z => h2 z _ ?_)
      · rintro r ⟨f_active3, f_outPlace3, f_outHeader3, f_freeNode3, f_freeCount3, f_keptDiagram3, f_depth3, f_got3, f_stamp3, a_links3, a_ruleCount3, a_matches3, a_actions3, a_changes3, a_states3, a_places3, a_headers3, a_tables3, a_treated3, a_nodes3, a_following3, a_marked3, a_bucket3, a_now3, a_next3, a_layer3, a_workLevel3, a_workOne3, a_workTwo3, a_workPhase3, a_workLow3, a_memoStamp3, a_memoOne3, a_memoTwo3, a_memoLevel3, a_memoGot3⟩ h
        refine And.intro hv ?_
        rw [hc]
        exact nm_e (nm_r (nI_1 i) h)
      · rintro r ⟨f_active3, f_outPlace3, f_outHeader3, f_freeNode3, f_freeCount3, f_keptDiagram3, f_depth3, f_got3, f_stamp3, a_links3, a_ruleCount3, a_matches3, a_actions3, a_changes3, a_states3, a_places3, a_headers3, a_tables3, a_treated3, a_nodes3, a_following3, a_marked3, a_bucket3, a_now3, a_next3, a_layer3, a_workLevel3, a_workOne3, a_workTwo3, a_workPhase3, a_workLow3, a_memoStamp3, a_memoOne3, a_memoTwo3, a_memoLevel3, a_memoGot3⟩ h
        refine And.intro hv ?_
        rw [hc]
        exact nm_e (nm_r (nI_1 i) h)
    exact k2
  exact key
theorem md_c {g : Option Nat} (hg : ∀ s, g = some s → s < 5) {i : Nat} (hi : i < 20) : nI (i / 4) = md_I g ↔ md_st g (i / 4) = true := by
  cases g with
  | none => exact ⟨fun z => absurd z (nb_m1lt _ (by omega)), fun z => absurd z Bool.false_ne_true⟩
  | some s =>
    have := hg s rfl
    show nI (i / 4) = nI s ↔ (i / 4 == s) = true
    rw [nI_eq (by omega) (by omega), beq_iff_eq]
theorem fw_m_1 {g : Option Nat} {lk : Nat → Option Nat} {T : TB} {k p h : Nat} (hs : md_st g (p / 4) = true) : fw_m g lk T (k + 1) p h = 1 := by
  unfold fw_m
  rw [fw_g, if_pos hs]
section
variable {g : Option Nat} {T : TB} {t : Nat} {u0 : SX} {kd : Option Nat} {fk : Nat → Nat}
/-- one place of one round -/
theorem so_p {post : SX → Prop} {J : _} {x4 : Int32} {k i n σ : Nat} {nw nx : Nat → Nat} {F : List Nat} (hg : ∀ s, g = some s → s < 5) (ht : t < 4) (hT : tb_Ok T) (H0 : tx_Hd u0 t T) (hl0 : lk_Ok (gx_links u0)) (hi : i < 20) (hσ : σ + 12 < 2 ^ 31) (u : SX) (hI : so_I g T u0 kd fk k nw u F σ) (hx : ∀ p, p < i → gx_next u p = nI (nx p) ∧ dg_R (bx_S u) F (nx p) (fw_m g (lk_f (gx_links u0)) T (k + 1) p)) (K : ∀ (u' : SX) (F' : List Nat) (σ' : Nat) (nx' : Nat → Nat), so_I g T u0 kd fk k nw u' F' σ' → (∀ p, p < i + 1 → gx_next u' p = nI (nx' p) ∧ dg_R (bx_S u') F' (nx' p) (fw_m g (lk_f (gx_links u0)) T (k + 1) p)) → σ' ≤ σ + 12 → 243 ≤ F'.length → wX_solve_52 post J (nI t) (md_I g) x4 n (nI (i + 1)) (gx_active u') (gx_outPlace u') (gx_outHeader u') (gx_freeNode u') (gx_freeCount u') (gx_keptDiagram u') (gx_depth u') (gx_got u') (gx_stamp u') (gx_links u') (gx_ruleCount u') (gx_matches u') (gx_actions u') (gx_changes u') (gx_states u') (gx_places u') (gx_headers u') (gx_tables u') (gx_treated u') (gx_nodes u') (gx_following u') (gx_marked u') (gx_bucket u') (gx_now u') (gx_next u') (gx_layer u') (gx_workLevel u') (gx_workOne u') (gx_workTwo u') (gx_workPhase u') (gx_workLow u') (gx_memoStamp u') (gx_memoOne u') (gx_memoTwo u') (gx_memoLevel u') (gx_memoGot u')) : wX_solve_52 post J (nI t) (md_I g) x4 (n + 1) (nI i) (gx_active u) (gx_outPlace u) (gx_outHeader u) (gx_freeNode u) (gx_freeCount u) (gx_keptDiagram u) (gx_depth u) (gx_got u) (gx_stamp u) (gx_links u) (gx_ruleCount u) (gx_matches u) (gx_actions u) (gx_changes u) (gx_states u) (gx_places u) (gx_headers u) (gx_tables u) (gx_treated u) (gx_nodes u) (gx_following u) (gx_marked u) (gx_bucket u) (gx_now u) (gx_next u) (gx_layer u) (gx_workLevel u) (gx_workOne u) (gx_workTwo u) (gx_workPhase u) (gx_workLow u) (gx_memoStamp u) (gx_memoOne u) (gx_memoTwo u) (gx_memoLevel u) (gx_memoGot u) := by
  obtain ⟨S, hs, hC, hn, hk, hf⟩ := hI
  refine so_s hi u (fun Q hQ => ?_)
  refine xd_collect (kd := kd) (F := F) (by omega) u S nw nx (fun p hp => ⟨(hn p hp).1, (hn p hp).2.1⟩) (fun p hp => ⟨(hx p hp).1, (hx p hp).2.1⟩) hk (fun r hr => (hf r hr).1) ?_
  intro u1 F1 S1 l1 C1 D1 M1 N1 a1 b1 c1
  refine hQ u1 ?_
  have hs1 : ms_k u1 σ := ms_M M1 hs
  have hC1 := C1.trans hC
  have hn1 : ∀ p, p < 20 → gx_now u1 p = nI (nw p) ∧ dg_R (bx_S u1) F1 (nw p) (fw_m g (lk_f (gx_links u0)) T k p) := fun p hp => ⟨by rw [xD_now D1]; exact (hn p hp).1, dg_R_N N1 (a1 p hp) (hn p hp).2⟩
  have fin : ∀ (r : Nat) (u2 : SX) (F2 : List Nat) (σ2 : Nat), xd_W 757 u1 F1 u2 F2 σ2 → σ2 ≤ σ + 12 → dg_R (bx_S u2) F2 r (fw_m g (lk_f (gx_links u0)) T (k + 1) i) → wX_solve_52 post J (nI t) (md_I g) x4 n (nI (i + 1)) (gx_active (sx_next u2 (upd (gx_next u2) i (nI r)))) (gx_outPlace (sx_next u2 (upd (gx_next u2) i (nI r)))) (gx_outHeader (sx_next u2 (upd (gx_next u2) i (nI r)))) (gx_freeNode (sx_next u2 (upd (gx_next u2) i (nI r)))) (gx_freeCount (sx_next u2 (upd (gx_next u2) i (nI r)))) (gx_keptDiagram (sx_next u2 (upd (gx_next u2) i (nI r)))) (gx_depth (sx_next u2 (upd (gx_next u2) i (nI r)))) (gx_got (sx_next u2 (upd (gx_next u2) i (nI r)))) (gx_stamp (sx_next u2 (upd (gx_next u2) i (nI r)))) (gx_links (sx_next u2 (upd (gx_next u2) i (nI r)))) (gx_ruleCount (sx_next u2 (upd (gx_next u2) i (nI r)))) (gx_matches (sx_next u2 (upd (gx_next u2) i (nI r)))) (gx_actions (sx_next u2 (upd (gx_next u2) i (nI r)))) (gx_changes (sx_next u2 (upd (gx_next u2) i (nI r)))) (gx_states (sx_next u2 (upd (gx_next u2) i (nI r)))) (gx_places (sx_next u2 (upd (gx_next u2) i (nI r)))) (gx_headers (sx_next u2 (upd (gx_next u2) i (nI r)))) (gx_tables (sx_next u2 (upd (gx_next u2) i (nI r)))) (gx_treated (sx_next u2 (upd (gx_next u2) i (nI r)))) (gx_nodes (sx_next u2 (upd (gx_next u2) i (nI r)))) (gx_following (sx_next u2 (upd (gx_next u2) i (nI r)))) (gx_marked (sx_next u2 (upd (gx_next u2) i (nI r)))) (gx_bucket (sx_next u2 (upd (gx_next u2) i (nI r)))) (gx_now (sx_next u2 (upd (gx_next u2) i (nI r)))) (gx_next (sx_next u2 (upd (gx_next u2) i (nI r)))) (gx_layer (sx_next u2 (upd (gx_next u2) i (nI r)))) (gx_workLevel (sx_next u2 (upd (gx_next u2) i (nI r)))) (gx_workOne (sx_next u2 (upd (gx_next u2) i (nI r)))) (gx_workTwo (sx_next u2 (upd (gx_next u2) i (nI r)))) (gx_workPhase (sx_next u2 (upd (gx_next u2) i (nI r)))) (gx_workLow (sx_next u2 (upd (gx_next u2) i (nI r)))) (gx_memoStamp (sx_next u2 (upd (gx_next u2) i (nI r)))) (gx_memoOne (sx_next u2 (upd (gx_next u2) i (nI r)))) (gx_memoTwo (sx_next u2 (upd (gx_next u2) i (nI r)))) (gx_memoLevel (sx_next u2 (upd (gx_next u2) i (nI r)))) (gx_memoGot (sx_next u2 (upd (gx_next u2) i (nI r)))) := by
    intro r u2 F2 σ2 w2 w3 w4
    obtain ⟨S2, E2, l2, C2, D2, k2⟩ := w2
    refine K (sx_next u2 (upd (gx_next u2) i (nI r))) F2 σ2 (fun p => if p = i then r else nx p) ⟨S2, k2, C2.trans hC1, fun p hp => ⟨?_, dg_R_E S1 E2 (hn1 p hp).2⟩, ?_, fun r' hr' => dg_R_E S1 E2 (dg_R_N N1 (c1 r' hr') (hf r' hr'))⟩ ?_ w3 (by omega)
    · show gx_now u2 p = _
      rw [xD_now D2]; exact (hn1 p hp).1
    · show gx_keptDiagram u2 = _
      rw [xD_kept D2, xD_kept D1]; exact hk
    · intro p hp
      show upd (gx_next u2) i (nI r) p = nI (if p = i then r else nx p) ∧ dg_R (bx_S u2) F2 (if p = i then r else nx p) _
      by_cases e : p = i
      · subst e
        rw [if_pos rfl, pk_us]
        exact ⟨rfl, w4⟩
      · rw [if_neg e, pk_un e, xD_next D2, xD_next D1]
        exact ⟨(hx p (by omega)).1, dg_R_E S1 E2 (dg_R_N N1 (b1 p (by omega)) (hx p (by omega)).2)⟩
  have hm := md_c hg hi
  refine ⟨fun z Q' hQ' => ?_, fun z Q' hQ' => ?_⟩
  · obtain ⟨r, u2, F2, w1, w2, w3⟩ := xd_leaf (v := 1) (by omega) (show 0 < F1.length by omega) u1 S1 hs1
    refine w1 _ (hQ' _ _ (fin r u2 F2 σ (xd_W_le w2 (by omega)) (by omega) (dg_R_cg w3 (fun h _ => ?_))))
    rw [fw_m_1 (hm.mp z)]
  · have hst : md_st g (i / 4) = false := by
      cases q : md_st g (i / 4)
      · rfl
      · exact absurd (hm.mpr q) z
    obtain ⟨r, u2, F2, σ2, w1, w2, w3, w4⟩ := xd_by (k := k) (nw := nw) hg ht hi hT (show 757 ≤ F1.length by omega) hσ hst u1 S1 hs1 (xC_Hd hC1 H0) (by rw [xC_links hC1]; exact hl0) (by rw [xC_links hC1]; exact hn1)
    rw [xC_links hC1] at w4
    exact w1 _ (hQ' _ _ (fin r u2 F2 σ2 w2 w3 w4))
theorem so_52 {post : SX → Prop} {J : _} {x4 : Int32} {k σ0 : Nat} {nw : Nat → Nat} (hg : ∀ s, g = some s → s < 5) (ht : t < 4) (hT : tb_Ok T) (H0 : tx_Hd u0 t T) (hl0 : lk_Ok (gx_links u0)) (hσ : σ0 + 240 < 2 ^ 31) (hp : ∀ (u : SX) (F : List Nat) (σ : Nat) (nx : Nat → Nat), so_I g T u0 kd fk k nw u F σ → (∀ p, p < 20 → gx_next u p = nI (nx p) ∧ dg_R (bx_S u) F (nx p) (fw_m g (lk_f (gx_links u0)) T (k + 1) p)) → σ ≤ σ0 + 240 → 243 ≤ F.length → ∃ n107, wX_solve_107 post J (nI t) (md_I g) x4 (gx_active u) (gx_outPlace u) (gx_outHeader u) (gx_freeNode u) (gx_freeCount u) (gx_keptDiagram u) (gx_depth u) (gx_got u) (gx_stamp u) n107 0 0 (gx_links u) (gx_ruleCount u) (gx_matches u) (gx_actions u) (gx_changes u) (gx_states u) (gx_places u) (gx_headers u) (gx_tables u) (gx_treated u) (gx_nodes u) (gx_following u) (gx_marked u) (gx_bucket u) (gx_now u) (gx_next u) (gx_layer u) (gx_workLevel u) (gx_workOne u) (gx_workTwo u) (gx_workPhase u) (gx_workLow u) (gx_memoStamp u) (gx_memoOne u) (gx_memoTwo u) (gx_memoLevel u) (gx_memoGot u)) : ∀ d i, i + d = 20 → ∀ (u : SX) (F : List Nat) (σ : Nat) (nx : Nat → Nat), so_I g T u0 kd fk k nw u F σ → (∀ p, p < i → gx_next u p = nI (nx p) ∧ dg_R (bx_S u) F (nx p) (fw_m g (lk_f (gx_links u0)) T (k + 1) p)) → σ ≤ σ0 + 12 * i → (i = 0 ∨ 243 ≤ F.length) → wX_solve_52 post J (nI t) (md_I g) x4 (d + 1) (nI i) (gx_active u) (gx_outPlace u) (gx_outHeader u) (gx_freeNode u) (gx_freeCount u) (gx_keptDiagram u) (gx_depth u) (gx_got u) (gx_stamp u) (gx_links u) (gx_ruleCount u) (gx_matches u) (gx_actions u) (gx_changes u) (gx_states u) (gx_places u) (gx_headers u) (gx_tables u) (gx_treated u) (gx_nodes u) (gx_following u) (gx_marked u) (gx_bucket u) (gx_now u) (gx_next u) (gx_layer u) (gx_workLevel u) (gx_workOne u) (gx_workTwo u) (gx_workPhase u) (gx_workLow u) (gx_memoStamp u) (gx_memoOne u) (gx_memoTwo u) (gx_memoLevel u) (gx_memoGot u) := by
  intro d
  induction d with
  | zero =>
    intro i hi u F σ nx hI hx hs hF
    have e : i = 20 := by omega
    subst e
    exact br_t (by decide) (hp u F σ nx hI hx (by omega) (by omega))
  | succ d ih =>
    intro i hi u F σ nx hI hx hs hF
    refine so_p hg ht hT H0 hl0 (by omega) (by omega) u hI hx ?_
    intro u' F' σ' nx' h1 h2 h3 h4
    exact ih (i + 1) (by omega) u' F' σ' nx' h1 h2 (by omega) (Or.inr h4)
end
/-- what was found is compared and moved -/
theorem so_107 {post : SX → Prop} {J : _} {x1 x2 x4 : Int32} (u : SX) (nw nx : Nat → Nat) (hw : ∀ p, p < 20 → nw p < 4096) (hx : ∀ p, p < 20 → gx_next u p = nI (nx p) ∧ nx p < 4096) (hp : ∀ (x3 : Int32) (no : Nat → Int32), (∀ p, p < 20 → no p = nI (nx p)) → (x3 = 0 → ∀ p, p < 20 → nx p = nw p) → J x3 (x4 + 1) (gx_active u) (gx_outPlace u) (gx_outHeader u) (gx_freeNode u) (gx_freeCount u) (gx_keptDiagram u) (gx_depth u) (gx_got u) (gx_stamp u) (gx_links u) (gx_ruleCount u) (gx_matches u) (gx_actions u) (gx_changes u) (gx_states u) (gx_places u) (gx_headers u) (gx_tables u) (gx_treated u) (gx_nodes u) (gx_following u) (gx_marked u) (gx_bucket u) (no) (gx_next u) (gx_layer u) (gx_workLevel u) (gx_workOne u) (gx_workTwo u) (gx_workPhase u) (gx_workLow u) (gx_memoStamp u) (gx_memoOne u) (gx_memoTwo u) (gx_memoLevel u) (gx_memoGot u)) : ∀ d i, i + d = 20 → ∀ (x3 : Int32) (no : Nat → Int32), (∀ p, p < i → no p = nI (nx p)) → (∀ p, i ≤ p → p < 20 → no p = nI (nw p)) → (x3 = 0 → ∀ p, p < i → nx p = nw p) → wX_solve_107 post J x1 x2 x4 (gx_active u) (gx_outPlace u) (gx_outHeader u) (gx_freeNode u) (gx_freeCount u) (gx_keptDiagram u) (gx_depth u) (gx_got u) (gx_stamp u) (d + 1) x3 (nI i) (gx_links u) (gx_ruleCount u) (gx_matches u) (gx_actions u) (gx_changes u) (gx_states u) (gx_places u) (gx_headers u) (gx_tables u) (gx_treated u) (gx_nodes u) (gx_following u) (gx_marked u) (gx_bucket u) (no) (gx_next u) (gx_layer u) (gx_workLevel u) (gx_workOne u) (gx_workTwo u) (gx_workPhase u) (gx_workLow u) (gx_memoStamp u) (gx_memoOne u) (gx_memoTwo u) (gx_memoLevel u) (gx_memoGot u) := by
  intro d
  induction d with
  | zero =>
    intro i hi x3 no a b c
    have e : i = 20 := by omega
    subst e
    exact br_t (by decide) (nm_e (hp x3 no a c))
  | succ d ih =>
    intro i hi x3 no a b c
    have hc : (nI i).toNatClampNeg = i := nI_clamp (by omega)
    have hv : vp_in (nI i) 20 := vp_in_nI (by omega) (by decide)
    have step : ∀ z : Int32, (z = 0 → ∀ p, p < i + 1 → nx p = nw p) → wX_solve_140 post J (wX_solve_107 post J x1 x2 x4 (gx_active u) (gx_outPlace u) (gx_outHeader u) (gx_freeNode u) (gx_freeCount u) (gx_keptDiagram u) (gx_depth u) (gx_got u) (gx_stamp u) (d + 1)) x1 x2 x4 (nI i) z (gx_active u) (gx_outPlace u) (gx_outHeader u) (gx_freeNode u) (gx_freeCount u) (gx_keptDiagram u) (gx_depth u) (gx_got u) (gx_stamp u) (gx_links u) (gx_ruleCount u) (gx_matches u) (gx_actions u) (gx_changes u) (gx_states u) (gx_places u) (gx_headers u) (gx_tables u) (gx_treated u) (gx_nodes u) (gx_following u) (gx_marked u) (gx_bucket u) (no) (gx_next u) (gx_layer u) (gx_workLevel u) (gx_workOne u) (gx_workTwo u) (gx_workPhase u) (gx_workLow u) (gx_memoStamp u) (gx_memoOne u) (gx_memoTwo u) (gx_memoLevel u) (gx_memoGot u) := by
      intro z hz
      refine And.intro hv (And.intro hv ?_)
      rw [hc, (hx i (by omega)).1]
      refine nm_e (nm_r (nI_1 i) (ih (i + 1) (by omega) z _ ?_ ?_ hz))
      · intro p hp'
        by_cases e : p = i
        · rw [e, pk_us]
        · rw [pk_un e]; exact a p (by omega)
      · intro p h1 h2
        rw [pk_un (by omega)]; exact b p (by omega) h2
    have s1 : wX_solve_135 post J (wX_solve_107 post J x1 x2 x4 (gx_active u) (gx_outPlace u) (gx_outHeader u) (gx_freeNode u) (gx_freeCount u) (gx_keptDiagram u) (gx_depth u) (gx_got u) (gx_stamp u) (d + 1)) x1 x2 x4 (nI i) (gx_active u) (gx_outPlace u) (gx_outHeader u) (gx_freeNode u) (gx_freeCount u) (gx_keptDiagram u) (gx_depth u) (gx_got u) (gx_stamp u) (gx_links u) (gx_ruleCount u) (gx_matches u) (gx_actions u) (gx_changes u) (gx_states u) (gx_places u) (gx_headers u) (gx_tables u) (gx_treated u) (gx_nodes u) (gx_following u) (gx_marked u) (gx_bucket u) (no) (gx_next u) (gx_layer u) (gx_workLevel u) (gx_workOne u) (gx_workTwo u) (gx_workPhase u) (gx_workLow u) (gx_memoStamp u) (gx_memoOne u) (gx_memoTwo u) (gx_memoLevel u) (gx_memoGot u) := step 1 (fun z => absurd z (by decide))
    refine br_f (nI_ge (b := 20) (by omega) (by decide)) (br_c (fun z => And.intro hv (And.intro hv (pk_eq (nx i) (nw i) (fun y => step 0 (fun _ p hp' => ?_)) (fun _ => s1) ?_ ?_ ?_ ?_))) (fun _ => s1))
    · by_cases e : p = i
      · rw [e]; exact y
      · exact c z p (by omega)
    · rw [hc]; exact (hx i (by omega)).1
    · rw [hc]; exact b i (by omega) (by omega)
    · have := (hx i (by omega)).2; omega
    · have := hw i (by omega); omega
theorem fw_step {g : Option Nat} {lk : Nat → Option Nat} {T : TB} (hT : tb_Ok T) (hlk : ∀ q p', q < 20 → lk q = some p' → p' < 20) {k j : Nat} (h : ∀ p x, p < 20 → x < 64 → fw_m g lk T k p x = fw_m g lk T j p x) : ∀ p x, p < 20 → x < 64 → fw_m g lk T (k + 1) p x = fw_m g lk T (j + 1) p x := by
  intro p x hp hx
  unfold fw_m
  rw [fw_g, fw_g]
  by_cases z : md_st g (p / 4) = true
  · rw [if_pos z, if_pos z]
  · rw [if_neg z, if_neg z]
    cases e : tr_o T 6 p x with
    | none => rfl
    | some y =>
      obtain ⟨q, w⟩ := y
      have hq := tr_lt hT hp hx e
      show (lk q).elim _ _ = (lk q).elim _ _
      cases e2 : lk q with
      | none => rfl
      | some p' => exact h p' w (hlk q p' hq.1 e2) hq.2
theorem fw_stab {g : Option Nat} {lk : Nat → Option Nat} {T : TB} (hT : tb_Ok T) (hlk : ∀ q p', q < 20 → lk q = some p' → p' < 20) {k : Nat} (h : ∀ p x, p < 20 → x < 64 → fw_m g lk T (k + 1) p x = fw_m g lk T k p x) : ∀ j p x, p < 20 → x < 64 → fw_m g lk T (k + j) p x = fw_m g lk T k p x := by
  intro j
  induction j with
  | zero => intro p x _ _; rfl
  | succ j ih =>
    intro p x hp hx
    rw [← Nat.add_assoc, fw_step hT hlk ih p x hp hx]
    exact h p x hp hx
theorem lk_lt {l : Nat → Int32} (H : lk_Ok l) : ∀ q p', q < 20 → lk_f l q = some p' → p' < 20 := by
  intro q p' hq e
  rcases lk_cs H hq with ⟨l1, _⟩ | ⟨p2, h2, l1, _⟩
  · exact absurd (e.symm.trans l1) (by simp)
  · rw [Option.some.inj (e.symm.trans l1)]; exact h2
end
section
/-! solve: rounds, the first diagrams, the whole -/
section
variable {g : Option Nat} {T : TB} {t : Nat} {u0 : SX} {kd : Option Nat} {fk : Nat → Nat}
theorem so_38 {post : SX → Prop} {σ0 fm : Nat} (hfm : fm ≤ 243) (hg : ∀ s, g = some s → s < 5) (ht : t < 4) (hT : tb_Ok T) (H0 : tx_Hd u0 t T) (hl0 : lk_Ok (gx_links u0)) (hσ : σ0 + 3840 < 2 ^ 31) (hp : ∀ (u : SX) (F : List Nat) (σ : Nat) (nw : Nat → Nat), so_I g T u0 kd fk 16 nw u F σ → σ ≤ σ0 + 3840 → fm ≤ F.length → post u) : ∀ d k, k + d = 16 → ∀ (u : SX) (F : List Nat) (σ : Nat) (nw : Nat → Nat) (x3 : Int32), so_I g T u0 kd fk k nw u F σ → σ ≤ σ0 + 240 * k → fm ≤ F.length → (x3 = 0 → ∀ p x, p < 20 → x < 64 → fw_m g (lk_f (gx_links u0)) T 16 p x = fw_m g (lk_f (gx_links u0)) T k p x) → wX_solve_38 post (nI t) (md_I g) (d + 1) x3 (nI k) (gx_active u) (gx_outPlace u) (gx_outHeader u) (gx_freeNode u) (gx_freeCount u) (gx_keptDiagram u) (gx_depth u) (gx_got u) (gx_stamp u) (gx_links u) (gx_ruleCount u) (gx_matches u) (gx_actions u) (gx_changes u) (gx_states u) (gx_places u) (gx_headers u) (gx_tables u) (gx_treated u) (gx_nodes u) (gx_following u) (gx_marked u) (gx_bucket u) (gx_now u) (gx_next u) (gx_layer u) (gx_workLevel u) (gx_workOne u) (gx_workTwo u) (gx_workPhase u) (gx_workLow u) (gx_memoStamp u) (gx_memoOne u) (gx_memoTwo u) (gx_memoLevel u) (gx_memoGot u) := by
  intro d
  induction d with
  | zero =>
    intro k hk u F σ nw x3 hI hs hF _
    have e : k = 16 := by omega
    subst e
    exact br_t (by decide) (hp u F σ nw hI (by omega) hF)
  | succ d ih =>
    intro k hk u F σ nw x3 hI hs hF hst
    have hI' := hI
    obtain ⟨S, hms, hC, hn, hkd, hf⟩ := hI
    refine br_f (nI_ge (b := 16) (by omega) (by decide)) (br_c (fun z => ?_) (fun z => ?_))
    · exact hp u F σ nw ⟨S, hms, hC, fun p hp' => ⟨(hn p hp').1, dg_R_cg (hn p hp').2 (fun x hx => (hst z p x hp' hx).symm)⟩, hkd, hf⟩ (by omega) hF
    · refine ⟨21, so_52 (σ0 := σ0 + 240 * k) hg ht hT H0 hl0 (by omega) ?_ 20 0 (by omega) u F σ (fun _ => 0) hI' (fun p hp' => absurd hp' (by omega)) (by omega) (Or.inl rfl)⟩
      intro u1 F1 σ1 nx h1 h2 h3 h4
      obtain ⟨S1, hms1, hC1, hn1, hkd1, hf1⟩ := h1
      refine ⟨21, so_107 u1 nw nx (fun p hp' => (hn1 p hp').2.1.1) (fun p hp' => ⟨(h2 p hp').1, (h2 p hp').2.1.1⟩) ?_ 20 0 (by omega) 0 (gx_now u1) (fun p hp' => absurd hp' (by omega)) (fun p _ hp' => (hn1 p hp').1) (fun _ p hp' => absurd hp' (by omega))⟩
      intro y no q1 q2
      rw [nI_1]
      refine ih (k + 1) (by omega) (sx_now u1 no) F1 σ1 nx y ⟨S1, hms1, hC1, fun p hp' => ⟨q1 p hp', (h2 p hp').2⟩, hkd1, hf1⟩ (by omega) (by omega) ?_
      intro hy p x hp' hx
      have hlk := lk_lt hl0
      have hst' : ∀ p x, p < 20 → x < 64 → fw_m g (lk_f (gx_links u0)) T (k + 1) p x = fw_m g (lk_f (gx_links u0)) T k p x := by
        intro p x hp' hx
        rw [← (h2 p hp').2.2 x hx, q2 hy p hp', (hn1 p hp').2.2 x hx]
      have := fw_stab hT hlk hst' (16 - k) p x hp' hx
      rw [show k + (16 - k) = 16 by omega] at this
      rw [this, hst' p x hp' hx]
theorem so_23 {post : SX → Prop} {J : _} {x1 x2 : Int32} {i v : Nat} (hi : i < 20) : ∀ u : SX, (∀ Q : Int32 → SX → Prop, (∀ r u', J (nI (i + 1)) (gx_active u') (gx_outPlace u') (gx_outHeader u') (gx_freeNode u') (gx_freeCount u') (gx_keptDiagram u') (gx_depth u') (gx_got u') (gx_stamp u') (gx_links u') (gx_ruleCount u') (gx_matches u') (gx_actions u') (gx_changes u') (gx_states u') (gx_places u') (gx_headers u') (gx_tables u') (gx_treated u') (gx_nodes u') (gx_following u') (gx_marked u') (gx_bucket u') (upd (gx_now u') i r) (gx_next u') (gx_layer u') (gx_workLevel u') (gx_workOne u') (gx_workTwo u') (gx_workPhase u') (gx_workLow u') (gx_memoStamp u') (gx_memoOne u') (gx_memoTwo u') (gx_memoLevel u') (gx_memoGot u') → Q r u') → wpX_leaf Q u (nI v)) → wX_solve_23 post J x1 x2 (nI i) (nI v) (nI i) (gx_active u) (gx_outPlace u) (gx_outHeader u) (gx_freeNode u) (gx_freeCount u) (gx_keptDiagram u) (gx_depth u) (gx_got u) (gx_stamp u) (gx_links u) (gx_ruleCount u) (gx_matches u) (gx_actions u) (gx_changes u) (gx_states u) (gx_places u) (gx_headers u) (gx_tables u) (gx_treated u) (gx_nodes u) (gx_following u) (gx_marked u) (gx_bucket u) (gx_now u) (gx_next u) (gx_layer u) (gx_workLevel u) (gx_workOne u) (gx_workTwo u) (gx_workPhase u) (gx_workLow u) (gx_memoStamp u) (gx_memoOne u) (gx_memoTwo u) (gx_memoLevel u) (gx_memoGot u) := by
  rintro ⟨f_active, f_outPlace, f_outHeader, f_freeNode, f_freeCount, f_keptDiagram, f_depth, f_got, f_stamp, a_links, a_ruleCount, a_matches, a_actions, a_changes, a_states, a_places, a_headers, a_tables, a_treated, a_nodes, a_following, a_marked, a_bucket, a_now, a_next, a_layer, a_workLevel, a_workOne, a_workTwo, a_workPhase, a_workLow, a_memoStamp, a_memoOne, a_memoTwo, a_memoLevel, a_memoGot⟩ H
  refine H _ ?_
  rintro r ⟨f_active2, f_outPlace2, f_outHeader2, f_freeNode2, f_freeCount2, f_keptDiagram2, f_depth2, f_got2, f_stamp2, a_links2, a_ruleCount2, a_matches2, a_actions2, a_changes2, a_states2, a_places2, a_headers2, a_tables2, a_treated2, a_nodes2, a_following2, a_marked2, a_bucket2, a_now2, a_next2, a_layer2, a_workLevel2, a_workOne2, a_workTwo2, a_workPhase2, a_workLow2, a_memoStamp2, a_memoOne2, a_memoTwo2, a_memoLevel2, a_memoGot2⟩ h
  refine And.intro (vp_in_nI hi (by decide)) ?_
  rw [nI_clamp (by omega)]
  exact nm_e (nm_r (nI_1 i) h)
theorem so_2 {post : SX → Prop} {σ fm : Nat} (hfm : fm ≤ 243) (hg : ∀ s, g = some s → s < 5) (ht : t < 4) (hT : tb_Ok T) (H0 : tx_Hd u0 t T) (hl0 : lk_Ok (gx_links u0)) (hσ : σ + 3840 < 2 ^ 31) (hp : ∀ (u : SX) (F : List Nat) (σ' : Nat) (nw : Nat → Nat), so_I g T u0 kd fk 16 nw u F σ' → σ' ≤ σ + 3840 → fm ≤ F.length → post u) : ∀ d i, i + d = 20 → ∀ (u : SX) (F : List Nat) (nw : Nat → Nat), st_Ok (bx_S u) F → ms_k u σ → bx_C u = bx_C u0 → (∀ p, p < i → gx_now u p = nI (nw p) ∧ dg_R (bx_S u) F (nw p) (fun _ => md_v0 g)) → gx_keptDiagram u = kd.elim (-1) nI → (∀ r, kd = some r → dg_R (bx_S u) F r fk) → fm + d ≤ F.length → wX_solve_2 post (nI t) (md_I g) (d + 1) (nI i) (gx_active u) (gx_outPlace u) (gx_outHeader u) (gx_freeNode u) (gx_freeCount u) (gx_keptDiagram u) (gx_depth u) (gx_got u) (gx_stamp u) (gx_links u) (gx_ruleCount u) (gx_matches u) (gx_actions u) (gx_changes u) (gx_states u) (gx_places u) (gx_headers u) (gx_tables u) (gx_treated u) (gx_nodes u) (gx_following u) (gx_marked u) (gx_bucket u) (gx_now u) (gx_next u) (gx_layer u) (gx_workLevel u) (gx_workOne u) (gx_workTwo u) (gx_workPhase u) (gx_workLow u) (gx_memoStamp u) (gx_memoOne u) (gx_memoTwo u) (gx_memoLevel u) (gx_memoGot u) := by
  intro d
  induction d with
  | zero =>
    intro i hi u F nw S hs hC hn hk hf hF
    have e : i = 20 := by omega
    subst e
    refine br_t (by decide) ⟨17, so_38 hfm hg ht hT H0 hl0 hσ hp 16 0 (by omega) u F σ nw 1 ⟨S, hs, hC, fun p hp' => ⟨(hn p hp').1, dg_R_cg (hn p hp').2 (fun x _ => rfl)⟩, hk, hf⟩ (by omega) (by omega) (fun z => absurd z (by decide))⟩
  | succ d ih =>
    intro i hi u F nw S hs hC hn hk hf hF
    have hv0 : md_v0 g < 384 := by
      cases g with
      | none => show 2 < 384; omega
      | some s => show 0 < 384; omega
    obtain ⟨r, u1, F1, w1, w2, w3⟩ := xd_leaf hv0 (show 0 < F.length by omega) u S hs
    obtain ⟨S1, E1, l1, C1, D1, k1⟩ := w2
    have key : wX_solve_2 post (nI t) (md_I g) (d + 1) (nI (i + 1)) (gx_active (sx_now u1 (upd (gx_now u1) i (nI r)))) (gx_outPlace (sx_now u1 (upd (gx_now u1) i (nI r)))) (gx_outHeader (sx_now u1 (upd (gx_now u1) i (nI r)))) (gx_freeNode (sx_now u1 (upd (gx_now u1) i (nI r)))) (gx_freeCount (sx_now u1 (upd (gx_now u1) i (nI r)))) (gx_keptDiagram (sx_now u1 (upd (gx_now u1) i (nI r)))) (gx_depth (sx_now u1 (upd (gx_now u1) i (nI r)))) (gx_got (sx_now u1 (upd (gx_now u1) i (nI r)))) (gx_stamp (sx_now u1 (upd (gx_now u1) i (nI r)))) (gx_links (sx_now u1 (upd (gx_now u1) i (nI r)))) (gx_ruleCount (sx_now u1 (upd (gx_now u1) i (nI r)))) (gx_matches (sx_now u1 (upd (gx_now u1) i (nI r)))) (gx_actions (sx_now u1 (upd (gx_now u1) i (nI r)))) (gx_changes (sx_now u1 (upd (gx_now u1) i (nI r)))) (gx_states (sx_now u1 (upd (gx_now u1) i (nI r)))) (gx_places (sx_now u1 (upd (gx_now u1) i (nI r)))) (gx_headers (sx_now u1 (upd (gx_now u1) i (nI r)))) (gx_tables (sx_now u1 (upd (gx_now u1) i (nI r)))) (gx_treated (sx_now u1 (upd (gx_now u1) i (nI r)))) (gx_nodes (sx_now u1 (upd (gx_now u1) i (nI r)))) (gx_following (sx_now u1 (upd (gx_now u1) i (nI r)))) (gx_marked (sx_now u1 (upd (gx_now u1) i (nI r)))) (gx_bucket (sx_now u1 (upd (gx_now u1) i (nI r)))) (gx_now (sx_now u1 (upd (gx_now u1) i (nI r)))) (gx_next (sx_now u1 (upd (gx_now u1) i (nI r)))) (gx_layer (sx_now u1 (upd (gx_now u1) i (nI r)))) (gx_workLevel (sx_now u1 (upd (gx_now u1) i (nI r)))) (gx_workOne (sx_now u1 (upd (gx_now u1) i (nI r)))) (gx_workTwo (sx_now u1 (upd (gx_now u1) i (nI r)))) (gx_workPhase (sx_now u1 (upd (gx_now u1) i (nI r)))) (gx_workLow (sx_now u1 (upd (gx_now u1) i (nI r)))) (gx_memoStamp (sx_now u1 (upd (gx_now u1) i (nI r)))) (gx_memoOne (sx_now u1 (upd (gx_now u1) i (nI r)))) (gx_memoTwo (sx_now u1 (upd (gx_now u1) i (nI r)))) (gx_memoLevel (sx_now u1 (upd (gx_now u1) i (nI r)))) (gx_memoGot (sx_now u1 (upd (gx_now u1) i (nI r)))) := by
      refine ih (i + 1) (by omega) (sx_now u1 (upd (gx_now u1) i (nI r))) F1 (fun p => if p = i then r else nw p) S1 k1 (C1.trans hC) ?_ ?_ (fun r' hr' => dg_R_E S E1 (hf r' hr')) (by omega)
      · intro p hp'
        show upd (gx_now u1) i (nI r) p = nI (if p = i then r else nw p) ∧ dg_R (bx_S u1) F1 (if p = i then r else nw p) _
        by_cases e : p = i
        · subst e
          rw [if_pos rfl, pk_us]
          exact ⟨rfl, w3⟩
        · rw [if_neg e, pk_un e, xD_now D1]
          exact ⟨(hn p (by omega)).1, dg_R_E S E1 (hn p (by omega)).2⟩
      · show gx_keptDiagram u1 = _
        rw [xD_kept D1]; exact hk
    have k2 : wX_solve_23 post (wX_solve_2 post (nI t) (md_I g) (d + 1)) (nI t) (md_I g) (nI i) (nI (md_v0 g)) (nI i) (gx_active u) (gx_outPlace u) (gx_outHeader u) (gx_freeNode u) (gx_freeCount u) (gx_keptDiagram u) (gx_depth u) (gx_got u) (gx_stamp u) (gx_links u) (gx_ruleCount u) (gx_matches u) (gx_actions u) (gx_changes u) (gx_states u) (gx_places u) (gx_headers u) (gx_tables u) (gx_treated u) (gx_nodes u) (gx_following u) (gx_marked u) (gx_bucket u) (gx_now u) (gx_next u) (gx_layer u) (gx_workLevel u) (gx_workOne u) (gx_workTwo u) (gx_workPhase u) (gx_workLow u) (gx_memoStamp u) (gx_memoOne u) (gx_memoTwo u) (gx_memoLevel u) (gx_memoGot u) := so_23 (by omega) u (fun Q hQ => w1 _ (hQ _ _ key))
    refine br_f (nI_ge (b := 20) (by omega) (by decide)) ?_
    cases g with
    | none => exact br_f (by decide) k2
    | some s => exact br_t (nI_pos' (by have := hg s rfl; omega)) k2
/-- solve -/
theorem xd_solve {post : SX → Prop} {σ fm : Nat} {F : List Nat} (hfm : fm ≤ 243) (hg : ∀ s, g = some s → s < 5) (ht : t < 4) (hT : tb_Ok T) (hσ : σ + 3840 < 2 ^ 31) (u : SX) (H : tx_Hd u t T) (hl : lk_Ok (gx_links u)) (S : st_Ok (bx_S u) F) (hs : ms_k u σ) (hk : gx_keptDiagram u = kd.elim (-1) nI) (hf : ∀ r, kd = some r → dg_R (bx_S u) F r fk) (hF : fm + 20 ≤ F.length) (hp : ∀ (u' : SX) (F' : List Nat) (σ' : Nat) (nw : Nat → Nat), so_I g T u kd fk 16 nw u' F' σ' → σ' ≤ σ + 3840 → fm ≤ F'.length → post u') : wpX_solve post u (nI t) (md_I g) := by
  have key := so_2 (kd := kd) (fk := fk) hfm hg ht hT H hl hσ hp 20 0 (by omega) u F (fun _ => 0) S hs rfl (fun p hp' => absurd hp' (by omega)) hk hf hF
  clear hp
  obtain ⟨f_active, f_outPlace, f_outHeader, f_freeNode, f_freeCount, f_keptDiagram, f_depth, f_got, f_stamp, a_links, a_ruleCount, a_matches, a_actions, a_changes, a_states, a_places, a_headers, a_tables, a_treated, a_nodes, a_following, a_marked, a_bucket, a_now, a_next, a_layer, a_workLevel, a_workOne, a_workTwo, a_workPhase, a_workLow, a_memoStamp, a_memoOne, a_memoTwo, a_memoLevel, a_memoGot⟩ := u
  exact Exists.intro _ key
end
end
section
/-! deciding: the rules of a switch, one leaf each -/
def de_r (T : TB) (s j h : Nat) : Nat := (fr_b (fr_P T s 6 h) (tb_c T s - j) j).elim 6 (fun i => i)
theorem de_s {T : TB} {s j h : Nat} (hj : j < tb_c T s) (h6 : j < 6) : de_r T s j h = if mt_b (tb_m T (6 * s + j)) h 6 = true then j else de_r T s (j + 1) h := by
  have hP : fr_P T s 6 h j = mt_b (tb_m T (6 * s + j)) h 6 := by
    unfold fr_P
    rw [show (j == 6) = false from by rw [beq_eq_false_iff_ne]; omega]
    rfl
  unfold de_r
  rw [show tb_c T s - j = (tb_c T s - (j + 1)) + 1 by omega]
  show Option.elim (if fr_P T s 6 h j = true then some j else fr_b (fr_P T s 6 h) (tb_c T s - (j + 1)) (j + 1)) _ _ = _
  rw [hP]
  by_cases z : mt_b (tb_m T (6 * s + j)) h 6 = true
  · rw [if_pos z, if_pos z]; rfl
  · rw [if_neg z, if_neg z]
theorem xe_s {post : Int32 → SX → Prop} {x2 : Int32} {s n r j m : Nat} (hs : s < 5) (hj : j < 6) : ∀ u : SX, (∀ Q : Int32 → SX → Prop, (∀ (o : Int32) (u1 : SX), (gx_matches u1 (6 * s + j) = nI m ∧ ∀ Q' : Int32 → SX → Prop, (∀ r' u', wX_deciding_32 post (nI s) x2 n r' (nI j - 1) (gx_active u') (gx_outPlace u') (gx_outHeader u') (gx_freeNode u') (gx_freeCount u') (gx_keptDiagram u') (gx_depth u') (gx_got u') (gx_stamp u') (gx_links u') (gx_ruleCount u') (gx_matches u') (gx_actions u') (gx_changes u') (gx_states u') (gx_places u') (gx_headers u') (gx_tables u') (gx_treated u') (gx_nodes u') (gx_following u') (gx_marked u') (gx_bucket u') (gx_now u') (gx_next u') (gx_layer u') (gx_workLevel u') (gx_workOne u') (gx_workTwo u') (gx_workPhase u') (gx_workLow u') (gx_memoStamp u') (gx_memoOne u') (gx_memoTwo u') (gx_memoLevel u') (gx_memoGot u') → Q' r' u') → wpX_choose Q' u1 (nI m) o (nI r)) → Q o u1) → wpX_leaf Q u (nI j)) → wX_deciding_32 post (nI s) x2 (n + 1) (nI r) (nI j) (gx_active u) (gx_outPlace u) (gx_outHeader u) (gx_freeNode u) (gx_freeCount u) (gx_keptDiagram u) (gx_depth u) (gx_got u) (gx_stamp u) (gx_links u) (gx_ruleCount u) (gx_matches u) (gx_actions u) (gx_changes u) (gx_states u) (gx_places u) (gx_headers u) (gx_tables u) (gx_treated u) (gx_nodes u) (gx_following u) (gx_marked u) (gx_bucket u) (gx_now u) (gx_next u) (gx_layer u) (gx_workLevel u) (gx_workOne u) (gx_workTwo u) (gx_workPhase u) (gx_workLow u) (gx_memoStamp u) (gx_memoOne u) (gx_memoTwo u) (gx_memoLevel u) (gx_memoGot u) := by
  rintro ⟨f_active, f_outPlace, f_outHeader, f_freeNode, f_freeCount, f_keptDiagram, f_depth, f_got, f_stamp, a_links, a_ruleCount, a_matches, a_actions, a_changes, a_states, a_places, a_headers, a_tables, a_treated, a_nodes, a_following, a_marked, a_bucket, a_now, a_next, a_layer, a_workLevel, a_workOne, a_workTwo, a_workPhase, a_workLow, a_memoStamp, a_memoOne, a_memoTwo, a_memoLevel, a_memoGot⟩ H
  have e : (6 : Int32) * nI s + nI j = nI (6 * s + j) := nb_6 s j
  have key : wX_deciding_32 post (nI s) x2 (n + 1) (nI r) (nI j) f_active f_outPlace f_outHeader f_freeNode f_freeCount f_keptDiagram f_depth f_got f_stamp a_links a_ruleCount a_matches a_actions a_changes a_states a_places a_headers a_tables a_treated a_nodes a_following a_marked a_bucket a_now a_next a_layer a_workLevel a_workOne a_workTwo a_workPhase a_workLow a_memoStamp a_memoOne a_memoTwo a_memoLevel a_memoGot := by
    refine br_f (nI_pos (by omega)) (H _ ?_)
    rintro o ⟨f_active2, f_outPlace2, f_outHeader2, f_freeNode2, f_freeCount2, f_keptDiagram2, f_depth2, f_got2, f_stamp2, a_links2, a_ruleCount2, a_matches2, a_actions2, a_changes2, a_states2, a_places2, a_headers2, a_tables2, a_treated2, a_nodes2, a_following2, a_marked2, a_bucket2, a_now2, a_next2, a_layer2, a_workLevel2, a_workOne2, a_workTwo2, a_workPhase2, a_workLow2, a_memoStamp2, a_memoOne2, a_memoTwo2, a_memoLevel2, a_memoGot2⟩ ⟨h1, h2⟩
    have e1 : a_matches2 (nI (6 * s + j)).toNatClampNeg = nI m := by rw [nI_clamp (by omega)]; exact h1
    have k2 : vp_in ((6 * nI s) + nI j) 120 ∧ (wpX_choose (fun r_191 u => match u with | (f_active3, f_outPlace3, f_outHeader3, f_freeNode3, f_freeCount3, f_keptDiagram3, f_depth3, f_got3, f_stamp3, a_links3, a_ruleCount3, a_matches3, a_actions3, a_changes3, a_states3, a_places3, a_headers3, a_tables3, a_treated3, a_nodes3, a_following3, a_marked3, a_bucket3, a_now3, a_next3, a_layer3, a_workLevel3, a_workOne3, a_workTwo3, a_workPhase3, a_workLow3, a_memoStamp3, a_memoOne3, a_memoTwo3, a_memoLevel3, a_memoGot3) => (∀ x4_228 : Int32, x4_228 = nI j + (-1) → (wX_deciding_32 post (nI s) x2 n r_191 x4_228 f_active3 f_outPlace3 f_outHeader3 f_freeNode3 f_freeCount3 f_keptDiagram3 f_depth3 f_got3 f_stamp3 a_links3 a_ruleCount3 a_matches3 a_actions3 a_changes3 a_states3 a_places3 a_headers3 a_tables3 a_treated3 a_nodes3 a_following3 a_marked3 a_bucket3 a_now3 a_next3 a_layer3 a_workLevel3 a_workOne3 a_workTwo3 a_workPhase3 a_workLow3 a_memoStamp3 a_memoOne3 a_memoTwo3 a_memoLevel3 a_memoGot3))) (f_active2, f_outPlace2, f_outHeader2, f_freeNode2, f_freeCount2, f_keptDiagram2, f_depth2, f_got2, f_stamp2, a_links2, a_ruleCount2, a_matches2, a_actions2, a_changes2, a_states2, a_places2, a_headers2, a_tables2, a_treated2, a_nodes2, a_following2, a_marked2, a_bucket2, a_now2, a_next2, a_layer2, a_workLevel2, a_workOne2, a_workTwo2, a_workPhase2, a_workLow2, a_memoStamp2, a_memoOne2, a_memoTwo2, a_memoLevel2, a_memoGot2) (a_matches2 ((6 * nI s) + nI j).toNatClampNeg) o (nI r)) := by
      rw [e, e1]
      refine And.intro (vp_in_nI (by omega) (by decide)) (h2 _ ?_)
      rintro r' ⟨f_active3, f_outPlace3, f_outHeader3, f_freeNode3, f_freeCount3, f_keptDiagram3, f_depth3, f_got3, f_stamp3, a_links3, a_ruleCount3, a_matches3, a_actions3, a_changes3, a_states3, a_places3, a_headers3, a_tables3, a_treated3, a_nodes3, a_following3, a_marked3, a_bucket3, a_now3, a_next3, a_layer3, a_workLevel3, a_workOne3, a_workTwo3, a_workPhase3, a_workLow3, a_memoStamp3, a_memoOne3, a_memoTwo3, a_memoLevel3, a_memoGot3⟩ h
      exact nm_r (nb_am _) h
    exact k2
  exact key
theorem xe_end {post : Int32 → SX → Prop} {x2 x1 x3 : Int32} {n : Nat} : ∀ u : SX, (∀ Q : Int32 → SX → Prop, (∀ r u', post r u' → Q r u') → wpX_countOf Q u x3 x2) → wX_deciding_32 post x1 x2 (n + 1) x3 (nI 0 - 1) (gx_active u) (gx_outPlace u) (gx_outHeader u) (gx_freeNode u) (gx_freeCount u) (gx_keptDiagram u) (gx_depth u) (gx_got u) (gx_stamp u) (gx_links u) (gx_ruleCount u) (gx_matches u) (gx_actions u) (gx_changes u) (gx_states u) (gx_places u) (gx_headers u) (gx_tables u) (gx_treated u) (gx_nodes u) (gx_following u) (gx_marked u) (gx_bucket u) (gx_now u) (gx_next u) (gx_layer u) (gx_workLevel u) (gx_workOne u) (gx_workTwo u) (gx_workPhase u) (gx_workLow u) (gx_memoStamp u) (gx_memoOne u) (gx_memoTwo u) (gx_memoLevel u) (gx_memoGot u) := by
  rintro ⟨f_active, f_outPlace, f_outHeader, f_freeNode, f_freeCount, f_keptDiagram, f_depth, f_got, f_stamp, a_links, a_ruleCount, a_matches, a_actions, a_changes, a_states, a_places, a_headers, a_tables, a_treated, a_nodes, a_following, a_marked, a_bucket, a_now, a_next, a_layer, a_workLevel, a_workOne, a_workTwo, a_workPhase, a_workLow, a_memoStamp, a_memoOne, a_memoTwo, a_memoLevel, a_memoGot⟩ H
  refine br_t (by decide) (H _ ?_)
  rintro r ⟨f_active2, f_outPlace2, f_outHeader2, f_freeNode2, f_freeCount2, f_keptDiagram2, f_depth2, f_got2, f_stamp2, a_links2, a_ruleCount2, a_matches2, a_actions2, a_changes2, a_states2, a_places2, a_headers2, a_tables2, a_treated2, a_nodes2, a_following2, a_marked2, a_bucket2, a_now2, a_next2, a_layer2, a_workLevel2, a_workOne2, a_workTwo2, a_workPhase2, a_workLow2, a_memoStamp2, a_memoOne2, a_memoTwo2, a_memoLevel2, a_memoGot2⟩ h
  exact h
theorem xe_d {T : TB} {s : Nat} {x2 : Int32} (hs : s < 5) (hT : tb_Ok T) : ∀ j, j ≤ tb_c T s → ∀ (u : SX) (F : List Nat) (σ r : Nat), tx_Hd u 0 T → st_Ok (bx_S u) F → ms_k u σ → dg_R (bx_S u) F r (de_r T s j) → 64 * j ≤ F.length → σ + j < 2 ^ 31 → ∃ (r' : Nat) (u' : SX) (F' : List Nat) (σ' : Nat), (∀ post : Int32 → SX → Prop, (∀ Q : Int32 → SX → Prop, (∀ r u', post r u' → Q r u') → wpX_countOf Q u' (nI r') x2) → wX_deciding_32 post (nI s) x2 (j + 1) (nI r) (nI j - 1) (gx_active u) (gx_outPlace u) (gx_outHeader u) (gx_freeNode u) (gx_freeCount u) (gx_keptDiagram u) (gx_depth u) (gx_got u) (gx_stamp u) (gx_links u) (gx_ruleCount u) (gx_matches u) (gx_actions u) (gx_changes u) (gx_states u) (gx_places u) (gx_headers u) (gx_tables u) (gx_treated u) (gx_nodes u) (gx_following u) (gx_marked u) (gx_bucket u) (gx_now u) (gx_next u) (gx_layer u) (gx_workLevel u) (gx_workOne u) (gx_workTwo u) (gx_workPhase u) (gx_workLow u) (gx_memoStamp u) (gx_memoOne u) (gx_memoTwo u) (gx_memoLevel u) (gx_memoGot u)) ∧ xd_W (64 * j) u F u' F' σ' ∧ σ' ≤ σ + j ∧ dg_R (bx_S u') F' r' (de_r T s 0) := by
  intro j
  induction j with
  | zero =>
    intro _ u F σ r H S hs' hr _ _
    exact ⟨r, u, F, σ, fun post hpost => xe_end u hpost, xd_W_r S hs', by omega, hr⟩
  | succ j ih =>
    intro hj u F σ r H S hs' hr hF hσ
    have h6 := hT.1 s hs
    have h30 : 6 * s + j < 30 := by omega
    obtain ⟨o, u1, F1, w1, w2, w3⟩ := xd_leaf (v := j) (by omega) (show 0 < F.length by omega) u S hs'
    have w2' := w2
    obtain ⟨S1, E1, l1, C1, D1, k1⟩ := w2
    obtain ⟨r2, u2, F2, v1, v2, v3⟩ := xd_choose (m := tb_m T (6 * s + j)) (hT.2 _ h30).1 (F := F1) (by omega) (σ := σ) (by omega) u1 S1 k1 w3 (dg_R_E S E1 hr)
    have v2' := v2
    obtain ⟨S2, E2, l2, C2, D2, k2⟩ := v2
    obtain ⟨r', u', F', σ', z1, z2, z3, z4⟩ := ih (by omega) u2 F2 (σ + 1) r2 (xC_Hd (C2.trans C1) H) S2 k2 (dg_R_cg v3 (fun h _ => (de_s (by omega) (by omega)).symm)) (by omega) (by omega)
    refine ⟨r', u', F', σ', ?_, xd_W_le (xd_W_t (xd_W_t w2' v2') z2) (by omega), by omega, z4⟩
    intro post hpost
    rw [nI_pred]
    have e1 : gx_matches u1 (6 * s + j) = nI (tb_m T (6 * s + j)) := by
      rw [xC_mat C1]
      have := (H.2 _ h30).1
      rw [show 30 * 0 + (6 * s + j) = 6 * s + j by omega] at this
      exact this
    exact xe_s hs (by omega) u (fun Q hQ => w1 _ (hQ _ _ ⟨e1, fun Q' hQ' => v1 _ (hQ' _ _ (z1 post hpost))⟩))
end
section
/-! treatment: 64 leaves, joined by twos -/
def xd_V (n : Nat) (u : SX) (F : List Nat) (u' : SX) (F' : List Nat) (σ' : Nat) : Prop := st_Ok (bx_S u') F' ∧ st_E (bx_S u) F (bx_S u') F' ∧ F.length ≤ F'.length + n ∧ bx_C u' = bx_C u ∧ ms_k u' σ'
theorem xd_V_of {n : Nat} {u u' : SX} {F F' : List Nat} {σ : Nat} (h : xd_W n u F u' F' σ) : xd_V n u F u' F' σ := ⟨h.1, h.2.1, h.2.2.1, h.2.2.2.1, h.2.2.2.2.2⟩
theorem xd_V_t {n n' : Nat} {u u' u2 : SX} {F F' F2 : List Nat} {σ σ' : Nat} (h : xd_V n u F u' F' σ) (h2 : xd_V n' u' F' u2 F2 σ') : xd_V (n + n') u F u2 F2 σ' := ⟨h2.1, st_E_t h.2.1 h2.2.1, by have := h.2.2.1; have := h2.2.2.1; omega, h2.2.2.2.1.trans h.2.2.2.1, h2.2.2.2.2⟩
theorem xd_V_le {n n' : Nat} {u u' : SX} {F F' : List Nat} {σ : Nat} (h : xd_V n u F u' F' σ) (hn : n ≤ n') : xd_V n' u F u' F' σ := ⟨h.1, h.2.1, by have := h.2.2.1; omega, h.2.2.2⟩
theorem xd_V_r {u : SX} {F : List Nat} {σ : Nat} (S : st_Ok (bx_S u) F) (h : ms_k u σ) : xd_V 0 u F u F σ := ⟨S, st_E_r _ _, Nat.le_refl _, rfl, h⟩
def ly_P (f : Nat → Nat) (k : Nat) (b : SB) (ly : Nat → Int32) (F : List Nat) (q : Nat) : Prop := ∃ a, ly q = nI a ∧ st_al F a ∧ 6 - k ≤ dg_lv (st_nd b a) ∧ ∀ h, h < 2 ^ k → dg_ev (st_nd b) k a h = f (q * 2 ^ k + h)
theorem ly_E {f : Nat → Nat} {k : Nat} (hk : k ≤ 6) {b b' : SB} {ly ly' : Nat → Int32} {F F' : List Nat} {q : Nat} (S : st_Ok b F) (E : st_E b F b' F') (e : ly' q = ly q) (h : ly_P f k b ly F q) : ly_P f k b' ly' F' q := by
  obtain ⟨a, h1, h2, h3, h4⟩ := h
  refine ⟨a, e.trans h1, st_E_al E h2, by rw [st_E_nd E h2]; exact h3, fun h hh => ?_⟩
  rw [st_ev S E hk h2]
  exact h4 h hh
/-- two neighbours are joined -/
theorem ly_j {f : Nat → Nat} {k q a b r : Nat} (hk : k < 6) {nd nd' : Nat → Nat} (ha : ∀ h, h < 2 ^ k → dg_ev nd k a h = f (2 * q * 2 ^ k + h)) (hb : ∀ h, h < 2 ^ k → dg_ev nd k b h = f ((2 * q + 1) * 2 ^ k + h)) (hr : ∀ h, dg_ev nd' (k + 1) r h = if h.testBit k = true then dg_ev nd k b h else dg_ev nd k a h) : ∀ h, h < 2 ^ (k + 1) → dg_ev nd' (k + 1) r h = f (q * 2 ^ (k + 1) + h) := by
  intro h hh
  have hp2 : 2 ^ (k + 1) = 2 * 2 ^ k := by rw [Nat.pow_succ]; omega
  rw [hr h]
  by_cases z : h < 2 ^ k
  · rw [Nat.testBit_lt_two_pow z, if_neg (by decide), ha h z, hp2]
    congr 1
    rw [Nat.mul_comm 2 q, Nat.mul_assoc]
  · obtain ⟨y, rfl⟩ : ∃ y, h = 2 ^ k + y := ⟨h - 2 ^ k, by omega⟩
    have hy : y < 2 ^ k := by omega
    rw [Nat.testBit_two_pow_add_eq, Nat.testBit_lt_two_pow hy, if_pos (show (!false) = true from rfl), dg_ev_bits nd k b _ y (fun i hi => Nat.testBit_two_pow_add_gt hi y), hb y hy, hp2]
    congr 1
    rw [Nat.add_mul, Nat.mul_comm 2 q, Nat.mul_assoc, Nat.one_mul, Nat.add_assoc]
theorem xi_s {post : Int32 → SX → Prop} {J : _} {k n q : Nat} {a b : Int32} (hk : k < 6) (hq : q < 2 ^ (5 - k)) : ∀ u : SX, gx_layer u (2 * q) = a → gx_layer u (2 * q + 1) = b → (∀ Q : Int32 → SX → Prop, (∀ r u', wX_treatment_72 post J (nI (5 - k)) n (nI (q + 1)) (gx_active (sx_layer u' (upd (gx_layer u') q r))) (gx_outPlace (sx_layer u' (upd (gx_layer u') q r))) (gx_outHeader (sx_layer u' (upd (gx_layer u') q r))) (gx_freeNode (sx_layer u' (upd (gx_layer u') q r))) (gx_freeCount (sx_layer u' (upd (gx_layer u') q r))) (gx_keptDiagram (sx_layer u' (upd (gx_layer u') q r))) (gx_depth (sx_layer u' (upd (gx_layer u') q r))) (gx_got (sx_layer u' (upd (gx_layer u') q r))) (gx_stamp (sx_layer u' (upd (gx_layer u') q r))) (gx_links (sx_layer u' (upd (gx_layer u') q r))) (gx_ruleCount (sx_layer u' (upd (gx_layer u') q r))) (gx_matches (sx_layer u' (upd (gx_layer u') q r))) (gx_actions (sx_layer u' (upd (gx_layer u') q r))) (gx_changes (sx_layer u' (upd (gx_layer u') q r))) (gx_states (sx_layer u' (upd (gx_layer u') q r))) (gx_places (sx_layer u' (upd (gx_layer u') q r))) (gx_headers (sx_layer u' (upd (gx_layer u') q r))) (gx_tables (sx_layer u' (upd (gx_layer u') q r))) (gx_treated (sx_layer u' (upd (gx_layer u') q r))) (gx_nodes (sx_layer u' (upd (gx_layer u') q r))) (gx_following (sx_layer u' (upd (gx_layer u') q r))) (gx_marked (sx_layer u' (upd (gx_layer u') q r))) (gx_bucket (sx_layer u' (upd (gx_layer u') q r))) (gx_now (sx_layer u' (upd (gx_layer u') q r))) (gx_next (sx_layer u' (upd (gx_layer u') q r))) (gx_layer (sx_layer u' (upd (gx_layer u') q r))) (gx_workLevel (sx_layer u' (upd (gx_layer u') q r))) (gx_workOne (sx_layer u' (upd (gx_layer u') q r))) (gx_workTwo (sx_layer u' (upd (gx_layer u') q r))) (gx_workPhase (sx_layer u' (upd (gx_layer u') q r))) (gx_workLow (sx_layer u' (upd (gx_layer u') q r))) (gx_memoStamp (sx_layer u' (upd (gx_layer u') q r))) (gx_memoOne (sx_layer u' (upd (gx_layer u') q r))) (gx_memoTwo (sx_layer u' (upd (gx_layer u') q r))) (gx_memoLevel (sx_layer u' (upd (gx_layer u') q r))) (gx_memoGot (sx_layer u' (upd (gx_layer u') q r))) → Q r u') → wpX_node Q u (nI (5 - k)) a b) → wX_treatment_72 post J (nI (5 - k)) (n + 1) (nI q) (gx_active u) (gx_outPlace u) (gx_outHeader u) (gx_freeNode u) (gx_freeCount u) (gx_keptDiagram u) (gx_depth u) (gx_got u) (gx_stamp u) (gx_links u) (gx_ruleCount u) (gx_matches u) (gx_actions u) (gx_changes u) (gx_states u) (gx_places u) (gx_headers u) (gx_tables u) (gx_treated u) (gx_nodes u) (gx_following u) (gx_marked u) (gx_bucket u) (gx_now u) (gx_next u) (gx_layer u) (gx_workLevel u) (gx_workOne u) (gx_workTwo u) (gx_workPhase u) (gx_workLow u) (gx_memoStamp u) (gx_memoOne u) (gx_memoTwo u) (gx_memoLevel u) (gx_memoGot u) := by
  rintro ⟨f_active, f_outPlace, f_outHeader, f_freeNode, f_freeCount, f_keptDiagram, f_depth, f_got, f_stamp, a_links, a_ruleCount, a_matches, a_actions, a_changes, a_states, a_places, a_headers, a_tables, a_treated, a_nodes, a_following, a_marked, a_bucket, a_now, a_next, a_layer, a_workLevel, a_workOne, a_workTwo, a_workPhase, a_workLow, a_memoStamp, a_memoOne, a_memoTwo, a_memoLevel, a_memoGot⟩ ea eb H
  have h32 : 2 ^ (5 - k) ≤ 32 := Nat.pow_le_pow_right (n := 2) (j := 5) (by decide) (by omega)
  have e0 : (1 : Int32) <<< (nI (5 - k) &&& 31) = nI (2 ^ (5 - k)) := by
    have := nb_shl (n := 1) (k := 5 - k) (by omega) (by omega)
    rw [Nat.one_mul] at this
    exact this
  have e2 : (2 : Int32) * nI q = nI (2 * q) := pk_mul 2 q
  have e3 : nI (2 * q) + 1 = nI (2 * q + 1) := nI_1 _
  have c2 : (nI (2 * q)).toNatClampNeg = 2 * q := nI_clamp (by omega)
  have c3 : (nI (2 * q + 1)).toNatClampNeg = 2 * q + 1 := nI_clamp (by omega)
  have key : ((((1 : Int32) <<< (nI (5 - k) &&& 31)) ≤ nI q → (∀ x2_6 : Int32, x2_6 = nI (5 - k) + (-1) → (J x2_6 f_active f_outPlace f_outHeader f_freeNode f_freeCount f_keptDiagram f_depth f_got f_stamp a_links a_ruleCount a_matches a_actions a_changes a_states a_places a_headers a_tables a_treated a_nodes a_following a_marked a_bucket a_now a_next a_layer a_workLevel a_workOne a_workTwo a_workPhase a_workLow a_memoStamp a_memoOne a_memoTwo a_memoLevel a_memoGot))) ∧ (¬ ((1 : Int32) <<< (nI (5 - k) &&& 31)) ≤ nI q → (vp_in (2 * nI q) 64 ∧ (vp_in ((2 * nI q) + 1) 64 ∧ (wpX_node (fun r_9 u => match u with | (f_active2, f_outPlace2, f_outHeader2, f_freeNode2, f_freeCount2, f_keptDiagram2, f_depth2, f_got2, f_stamp2, a_links2, a_ruleCount2, a_matches2, a_actions2, a_changes2, a_states2, a_places2, a_headers2, a_tables2, a_treated2, a_nodes2, a_following2, a_marked2, a_bucket2, a_now2, a_next2, a_layer2, a_workLevel2, a_workOne2, a_workTwo2, a_workPhase2, a_workLow2, a_memoStamp2, a_memoOne2, a_memoTwo2, a_memoLevel2, a_memoGot2) => (vp_in (nI q) 64 ∧ ∀ a_layer_47 : Nat → Int32, a_layer_47 = upd a_layer2 (nI q).toNatClampNeg r_9 → (∀ x3_48 : Int32, x3_48 = nI q + 1 → (wX_treatment_72 post J (nI (5 - k)) n x3_48 f_active2 f_outPlace2 f_outHeader2 f_freeNode2 f_freeCount2 f_keptDiagram2 f_depth2 f_got2 f_stamp2 a_links2 a_ruleCount2 a_matches2 a_actions2 a_changes2 a_states2 a_places2 a_headers2 a_tables2 a_treated2 a_nodes2 a_following2 a_marked2 a_bucket2 a_now2 a_next2 a_layer_47 a_workLevel2 a_workOne2 a_workTwo2 a_workPhase2 a_workLow2 a_memoStamp2 a_memoOne2 a_memoTwo2 a_memoLevel2 a_memoGot2)))) (f_active, f_outPlace, f_outHeader, f_freeNode, f_freeCount, f_keptDiagram, f_depth, f_got, f_stamp, a_links, a_ruleCount, a_matches, a_actions, a_changes, a_states, a_places, a_headers, a_tables, a_treated, a_nodes, a_following, a_marked, a_bucket, a_now, a_next, a_layer, a_workLevel, a_workOne, a_workTwo, a_workPhase, a_workLow, a_memoStamp, a_memoOne, a_memoTwo, a_memoLevel, a_memoGot) (nI (5 - k)) (a_layer (2 * nI q).toNatClampNeg) (a_layer ((2 * nI q) + 1).toNatClampNeg)))))) := by
    rw [e0, e2, e3, c2, c3]
    refine br_f (nI_ge (by omega) (by omega)) (And.intro (vp_in_nI (by omega) (by decide)) (And.intro (vp_in_nI (by omega) (by decide)) ?_))
    have ea' : a_layer (2 * q) = a := ea
    have eb' : a_layer (2 * q + 1) = b := eb
    rw [ea', eb']
    refine H _ ?_
    rintro r ⟨f_active2, f_outPlace2, f_outHeader2, f_freeNode2, f_freeCount2, f_keptDiagram2, f_depth2, f_got2, f_stamp2, a_links2, a_ruleCount2, a_matches2, a_actions2, a_changes2, a_states2, a_places2, a_headers2, a_tables2, a_treated2, a_nodes2, a_following2, a_marked2, a_bucket2, a_now2, a_next2, a_layer2, a_workLevel2, a_workOne2, a_workTwo2, a_workPhase2, a_workLow2, a_memoStamp2, a_memoOne2, a_memoTwo2, a_memoLevel2, a_memoGot2⟩ h
    refine And.intro (vp_in_nI (by omega) (by decide)) ?_
    rw [nI_clamp (by omega)]
    exact nm_e (nm_r (nI_1 q) h)
  exact key
theorem xi_72 {post : Int32 → SX → Prop} {J : _} {f : Nat → Nat} {k σ : Nat} (hk : k < 6) {u0 : SX} {F0 : List Nat} (hp : ∀ (u : SX) (F : List Nat), xd_V (2 ^ (5 - k)) u0 F0 u F σ → (∀ i, i < 2 ^ (5 - k) → ly_P f (k + 1) (bx_S u) (gx_layer u) F i) → J (nI (5 - k) - 1) (gx_active u) (gx_outPlace u) (gx_outHeader u) (gx_freeNode u) (gx_freeCount u) (gx_keptDiagram u) (gx_depth u) (gx_got u) (gx_stamp u) (gx_links u) (gx_ruleCount u) (gx_matches u) (gx_actions u) (gx_changes u) (gx_states u) (gx_places u) (gx_headers u) (gx_tables u) (gx_treated u) (gx_nodes u) (gx_following u) (gx_marked u) (gx_bucket u) (gx_now u) (gx_next u) (gx_layer u) (gx_workLevel u) (gx_workOne u) (gx_workTwo u) (gx_workPhase u) (gx_workLow u) (gx_memoStamp u) (gx_memoOne u) (gx_memoTwo u) (gx_memoLevel u) (gx_memoGot u)) : ∀ d q, q + d = 2 ^ (5 - k) → ∀ (u : SX) (F : List Nat), xd_V q u0 F0 u F σ → (∀ i, i < q → ly_P f (k + 1) (bx_S u) (gx_layer u) F i) → (∀ i, 2 * q ≤ i → i < 2 ^ (6 - k) → ly_P f k (bx_S u) (gx_layer u) F i) → d ≤ F.length → wX_treatment_72 post J (nI (5 - k)) (d + 1) (nI q) (gx_active u) (gx_outPlace u) (gx_outHeader u) (gx_freeNode u) (gx_freeCount u) (gx_keptDiagram u) (gx_depth u) (gx_got u) (gx_stamp u) (gx_links u) (gx_ruleCount u) (gx_matches u) (gx_actions u) (gx_changes u) (gx_states u) (gx_places u) (gx_headers u) (gx_tables u) (gx_treated u) (gx_nodes u) (gx_following u) (gx_marked u) (gx_bucket u) (gx_now u) (gx_next u) (gx_layer u) (gx_workLevel u) (gx_workOne u) (gx_workTwo u) (gx_workPhase u) (gx_workLow u) (gx_memoStamp u) (gx_memoOne u) (gx_memoTwo u) (gx_memoLevel u) (gx_memoGot u) := by
  have h32 : 2 ^ (5 - k) ≤ 32 := Nat.pow_le_pow_right (n := 2) (j := 5) (by decide) (by omega)
  have h64 : 2 ^ (6 - k) = 2 * 2 ^ (5 - k) := by rw [show 6 - k = 5 - k + 1 by omega, Nat.pow_succ]; omega
  intro d
  induction d with
  | zero =>
    intro q hq u F hV h1 h2 hF
    have e : q = 2 ^ (5 - k) := by omega
    subst e
    have key := hp u F hV h1
    clear hp h1 h2 hV
    have e0 : (1 : Int32) <<< (nI (5 - k) &&& 31) = nI (2 ^ (5 - k)) := by
      have := nb_shl (n := 1) (k := 5 - k) (by omega) (by omega)
      rw [Nat.one_mul] at this
      exact this
    refine br_t ?_ (nm_r (nb_am _) key)
    rw [e0]
    exact nI_le (Nat.le_refl _) (by omega)
  | succ d ih =>
    intro q hq u F hV h1 h2 hF
    obtain ⟨a, a1, a2, a3, a4⟩ := h2 (2 * q) (by omega) (by omega)
    obtain ⟨b, b1, b2, b3, b4⟩ := h2 (2 * q + 1) (by omega) (by omega)
    have hV' := hV
    obtain ⟨S, E, l, C, ms⟩ := hV
    obtain ⟨r, u', F', w1, w2, w3, w4, w5, w6, w7, w8⟩ := xl_node (k := k) hk (F := F) (by omega) u S a2 b2 a3 b3
    refine xi_s hk (by omega) u a1 b1 (fun Q hQ => w1 _ (hQ _ _ ?_))
    have ew := xd_K w2 w3 w4 w5 ms
    have eL : gx_layer u' = gx_layer u := xD_layer w2.2.1
    refine ih (q + 1) (by omega) (sx_layer u' (upd (gx_layer u') q (nI r))) F' ⟨w3, st_E_t E w4, by omega, ew.2.2.2.1.trans C, ew.2.2.2.2.2⟩ ?_ ?_ (by omega)
    · intro i hi
      show ly_P f (k + 1) (bx_S u') (upd (gx_layer u') q (nI r)) F' i
      by_cases e : i = q
      · subst e
        exact ⟨r, pk_us, w6, by omega, ly_j hk a4 b4 w8⟩
      · exact ly_E (by omega) S w4 (by rw [pk_un e, eL]) (h1 i (by omega))
    · intro i hi1 hi2
      show ly_P f k (bx_S u') (upd (gx_layer u') q (nI r)) F' i
      exact ly_E (by omega) S w4 (by rw [pk_un (by omega), eL]) (h2 i (by omega) hi2)
end
section
/-! treatment and treatments: the whole -/
theorem xi_66 {post : Int32 → SX → Prop} {f : Nat → Nat} {σ : Nat} {u0 : SX} {F0 : List Nat} (hp : ∀ (r : Nat) (u : SX) (F : List Nat), xd_V 63 u0 F0 u F σ → dg_R (bx_S u) F r f → post (nI r) u) : ∀ j k, k + j = 6 → ∀ (u : SX) (F : List Nat), xd_V (64 - 2 ^ j) u0 F0 u F σ → (∀ i, i < 2 ^ j → ly_P f k (bx_S u) (gx_layer u) F i) → 2 ^ j ≤ F.length + 1 → wX_treatment_66 post (j + 1) (nI j - 1) (gx_active u) (gx_outPlace u) (gx_outHeader u) (gx_freeNode u) (gx_freeCount u) (gx_keptDiagram u) (gx_depth u) (gx_got u) (gx_stamp u) (gx_links u) (gx_ruleCount u) (gx_matches u) (gx_actions u) (gx_changes u) (gx_states u) (gx_places u) (gx_headers u) (gx_tables u) (gx_treated u) (gx_nodes u) (gx_following u) (gx_marked u) (gx_bucket u) (gx_now u) (gx_next u) (gx_layer u) (gx_workLevel u) (gx_workOne u) (gx_workTwo u) (gx_workPhase u) (gx_workLow u) (gx_memoStamp u) (gx_memoOne u) (gx_memoTwo u) (gx_memoLevel u) (gx_memoGot u) := by
  intro j
  induction j with
  | zero =>
    intro k hk u F hV h1 hF
    have e : k = 6 := by omega
    subst e
    obtain ⟨a, a1, a2, a3, a4⟩ := h1 0 (by decide)
    have key := hp a u F (xd_V_le hV (by decide)) ⟨a2, fun x hx => by have := a4 x hx; rw [Nat.zero_mul, Nat.zero_add] at this; exact this⟩
    rw [← a1] at key
    exact br_t (by decide) key
  | succ j ih =>
    intro k hk u F hV h1 hF
    have hp2 : 2 ^ (j + 1) = 2 * 2 ^ j := by rw [Nat.pow_succ]; omega
    have hj32 : 2 ^ j ≤ 32 := Nat.pow_le_pow_right (n := 2) (j := 5) (by decide) (by omega)
    have hpos := Nat.two_pow_pos j
    have e5 : 5 - k = j := by omega
    have e6 : 6 - k = j + 1 := by omega
    rw [nI_pred]
    refine br_f (nI_pos (by omega)) ⟨2 ^ j + 1, ?_⟩
    have hV' := hV
    obtain ⟨S, E, l, C, ms⟩ := hV
    have key := xi_72 (post := post) (J := wX_treatment_66 post (j + 1)) (f := f) (k := k) (σ := σ) (by omega) (u0 := u) (F0 := F) (fun u' F' hV2 h2 => by
      rw [e5] at hV2 h2 ⊢
      refine ih (k + 1) (by omega) u' F' (xd_V_le (xd_V_t hV' hV2) (by omega)) h2 ?_
      have := hV2.2.2.1
      omega) (2 ^ j) 0 (by rw [e5]; omega) u F (xd_V_r S ms) (fun i hi => absurd hi (by omega)) (fun i _ hi => h1 i (by rw [e6] at hi; exact hi)) (by omega)
    rw [e5] at key
    exact key
def tm_v (T : TB) (s i h : Nat) : Nat := if tb_a T (6 * s + i) = 4 then 256 else 64 * tb_a T (6 * s + i) + ch_v (tb_h T (6 * s + i)) h
theorem xi_20s {post : Int32 → SX → Prop} {at_ n h a c : Nat} (hat : at_ < 120) (hh : h < 64) (hc : c < 4096) : ∀ u : SX, gx_actions u at_ = nI a → gx_changes u at_ = nI c → (∀ Q : Int32 → SX → Prop, (∀ r u', wX_treatment_20 post (nI at_) n (nI (h + 1)) (gx_active (sx_layer u' (upd (gx_layer u') h r))) (gx_outPlace (sx_layer u' (upd (gx_layer u') h r))) (gx_outHeader (sx_layer u' (upd (gx_layer u') h r))) (gx_freeNode (sx_layer u' (upd (gx_layer u') h r))) (gx_freeCount (sx_layer u' (upd (gx_layer u') h r))) (gx_keptDiagram (sx_layer u' (upd (gx_layer u') h r))) (gx_depth (sx_layer u' (upd (gx_layer u') h r))) (gx_got (sx_layer u' (upd (gx_layer u') h r))) (gx_stamp (sx_layer u' (upd (gx_layer u') h r))) (gx_links (sx_layer u' (upd (gx_layer u') h r))) (gx_ruleCount (sx_layer u' (upd (gx_layer u') h r))) (gx_matches (sx_layer u' (upd (gx_layer u') h r))) (gx_actions (sx_layer u' (upd (gx_layer u') h r))) (gx_changes (sx_layer u' (upd (gx_layer u') h r))) (gx_states (sx_layer u' (upd (gx_layer u') h r))) (gx_places (sx_layer u' (upd (gx_layer u') h r))) (gx_headers (sx_layer u' (upd (gx_layer u') h r))) (gx_tables (sx_layer u' (upd (gx_layer u') h r))) (gx_treated (sx_layer u' (upd (gx_layer u') h r))) (gx_nodes (sx_layer u' (upd (gx_layer u') h r))) (gx_following (sx_layer u' (upd (gx_layer u') h r))) (gx_marked (sx_layer u' (upd (gx_layer u') h r))) (gx_bucket (sx_layer u' (upd (gx_layer u') h r))) (gx_now (sx_layer u' (upd (gx_layer u') h r))) (gx_next (sx_layer u' (upd (gx_layer u') h r))) (gx_layer (sx_layer u' (upd (gx_layer u') h r))) (gx_workLevel (sx_layer u' (upd (gx_layer u') h r))) (gx_workOne (sx_layer u' (upd (gx_layer u') h r))) (gx_workTwo (sx_layer u' (upd (gx_layer u') h r))) (gx_workPhase (sx_layer u' (upd (gx_layer u') h r))) (gx_workLow (sx_layer u' (upd (gx_layer u') h r))) (gx_memoStamp (sx_layer u' (upd (gx_layer u') h r))) (gx_memoOne (sx_layer u' (upd (gx_layer u') h r))) (gx_memoTwo (sx_layer u' (upd (gx_layer u') h r))) (gx_memoLevel (sx_layer u' (upd (gx_layer u') h r))) (gx_memoGot (sx_layer u' (upd (gx_layer u') h r))) → Q r u') → wpX_leaf Q u (nI (64 * a + ch_v c h))) → wX_treatment_20 post (nI at_) (n + 1) (nI h) (gx_active u) (gx_outPlace u) (gx_outHeader u) (gx_freeNode u) (gx_freeCount u) (gx_keptDiagram u) (gx_depth u) (gx_got u) (gx_stamp u) (gx_links u) (gx_ruleCount u) (gx_matches u) (gx_actions u) (gx_changes u) (gx_states u) (gx_places u) (gx_headers u) (gx_tables u) (gx_treated u) (gx_nodes u) (gx_following u) (gx_marked u) (gx_bucket u) (gx_now u) (gx_next u) (gx_layer u) (gx_workLevel u) (gx_workOne u) (gx_workTwo u) (gx_workPhase u) (gx_workLow u) (gx_memoStamp u) (gx_memoOne u) (gx_memoTwo u) (gx_memoLevel u) (gx_memoGot u) := by
  rintro ⟨f_active, f_outPlace, f_outHeader, f_freeNode, f_freeCount, f_keptDiagram, f_depth, f_got, f_stamp, a_links, a_ruleCount, a_matches, a_actions, a_changes, a_states, a_places, a_headers, a_tables, a_treated, a_nodes, a_following, a_marked, a_bucket, a_now, a_next, a_layer, a_workLevel, a_workOne, a_workTwo, a_workPhase, a_workLow, a_memoStamp, a_memoOne, a_memoTwo, a_memoLevel, a_memoGot⟩ ea ec H
  have hva : vp_in (nI at_) 120 := vp_in_nI hat (by decide)
  have ea' : a_actions (nI at_).toNatClampNeg = nI a := by rw [nI_clamp (by omega)]; exact ea
  have ec' : a_changes (nI at_).toNatClampNeg = nI c := by rw [nI_clamp (by omega)]; exact ec
  have e1 : (64 : Int32) * nI a + nI (ch_v c h) = nI (64 * a + ch_v c h) := by
    show nI 64 * nI a + _ = _
    rw [pk_mul, nI_add]
  have key : wX_treatment_20 post (nI at_) (n + 1) (nI h) f_active f_outPlace f_outHeader f_freeNode f_freeCount f_keptDiagram f_depth f_got f_stamp a_links a_ruleCount a_matches a_actions a_changes a_states a_places a_headers a_tables a_treated a_nodes a_following a_marked a_bucket a_now a_next a_layer a_workLevel a_workOne a_workTwo a_workPhase a_workLow a_memoStamp a_memoOne a_memoTwo a_memoLevel a_memoGot := by
    refine br_f (nI_ge (b := 64) (by omega) (by decide)) (And.intro hva ?_)
    rw [ec']
    refine nm_e ?_
    rw [nb_chX hc hh]
    refine And.intro hva ?_
    rw [ea', e1]
    refine H _ ?_
    rintro r ⟨f_active2, f_outPlace2, f_outHeader2, f_freeNode2, f_freeCount2, f_keptDiagram2, f_depth2, f_got2, f_stamp2, a_links2, a_ruleCount2, a_matches2, a_actions2, a_changes2, a_states2, a_places2, a_headers2, a_tables2, a_treated2, a_nodes2, a_following2, a_marked2, a_bucket2, a_now2, a_next2, a_layer2, a_workLevel2, a_workOne2, a_workTwo2, a_workPhase2, a_workLow2, a_memoStamp2, a_memoOne2, a_memoTwo2, a_memoLevel2, a_memoGot2⟩ h'
    refine And.intro (vp_in_nI (by omega) (by decide)) ?_
    rw [nI_clamp (by omega)]
    exact nm_e (nm_r (nI_1 h) h')
  exact key
theorem xi_20 {post : Int32 → SX → Prop} {T : TB} {s i σ : Nat} {u0 : SX} {F0 : List Nat} (hs : s < 5) (hi : i < 6) (hT : tb_Ok T) (H0 : tx_Hd u0 0 T) (ha : tb_a T (6 * s + i) ≠ 4) (hp : ∀ (r : Nat) (u : SX) (F : List Nat), xd_V 127 u0 F0 u F σ → dg_R (bx_S u) F r (tm_v T s i) → post (nI r) u) : ∀ d h, h + d = 64 → ∀ (u : SX) (F : List Nat), xd_V h u0 F0 u F σ → (∀ x, x < h → ly_P (tm_v T s i) 0 (bx_S u) (gx_layer u) F x) → d + 63 ≤ F.length → wX_treatment_20 post (nI (6 * s + i)) (d + 1) (nI h) (gx_active u) (gx_outPlace u) (gx_outHeader u) (gx_freeNode u) (gx_freeCount u) (gx_keptDiagram u) (gx_depth u) (gx_got u) (gx_stamp u) (gx_links u) (gx_ruleCount u) (gx_matches u) (gx_actions u) (gx_changes u) (gx_states u) (gx_places u) (gx_headers u) (gx_tables u) (gx_treated u) (gx_nodes u) (gx_following u) (gx_marked u) (gx_bucket u) (gx_now u) (gx_next u) (gx_layer u) (gx_workLevel u) (gx_workOne u) (gx_workTwo u) (gx_workPhase u) (gx_workLow u) (gx_memoStamp u) (gx_memoOne u) (gx_memoTwo u) (gx_memoLevel u) (gx_memoGot u) := by
  have h30 : 6 * s + i < 30 := by omega
  have hr := hT.2 _ h30
  intro d
  induction d with
  | zero =>
    intro h hh u F hV h1 hF
    have e : h = 64 := by omega
    subst e
    obtain ⟨S, E, l, C, ms⟩ := hV
    have key := xi_66 (post := post) (f := tm_v T s i) (σ := σ) (u0 := u) (F0 := F) (fun r u' F' hV2 h2 => hp r u' F' (xd_V_t ⟨S, E, l, C, ms⟩ hV2) h2) 6 0 (by omega) u F (xd_V_r S ms) h1 (by show 64 ≤ _; omega)
    exact br_t (by decide) ⟨7, key⟩
  | succ d ih =>
    intro h hh u F hV h1 hF
    have hV' := hV
    obtain ⟨S, E, l, C, ms⟩ := hV
    have Hd := (xC_Hd C H0).2 _ h30
    rw [show 30 * 0 + (6 * s + i) = 6 * s + i by omega] at Hd
    have hch := ch_lt hr.2.2 (show h < 64 by omega)
    obtain ⟨r, u', F', w1, w2, w3⟩ := xd_leaf (v := 64 * tb_a T (6 * s + i) + ch_v (tb_h T (6 * s + i)) h) (by omega) (show 0 < F.length by omega) u S ms
    have w2' := w2
    obtain ⟨S1, E1, l1, C1, D1, k1⟩ := w2
    refine xi_20s (by omega) (by omega) hr.2.2 u Hd.2.1 Hd.2.2 (fun Q hQ => w1 _ (hQ _ _ ?_))
    have eL : gx_layer u' = gx_layer u := xD_layer D1
    refine ih (h + 1) (by omega) (sx_layer u' (upd (gx_layer u') h (nI r))) F' ⟨S1, st_E_t E E1, by omega, C1.trans C, k1⟩ ?_ (by omega)
    intro x hx
    show ly_P (tm_v T s i) 0 (bx_S u') (upd (gx_layer u') h (nI r)) F' x
    by_cases e : x = h
    · subst e
      have hlf : dg_lv (st_nd (bx_S u') r) = 6 := by
        obtain ⟨r2, u2, F2, y1, y2, y3, y4, y5, y6, y7, y8⟩ := xl_leaf (v := 64 * tb_a T (6 * s + i) + ch_v (tb_h T (6 * s + i)) x) (by omega) (show 0 < F.length by omega) u S
        have c1 := dg_canon (st_W S1) (st_U S1) 6 (by omega) r r w3.1 w3.1 (by omega) (by omega) (fun _ _ => rfl)
        by_cases z : dg_lv (st_nd (bx_S u') r) < 6
        · -- a node below a leaf's function: its two branches would be one
          have hin := dg_inner (st_W S1) w3.1 z
          obtain ⟨j, hj, hlj⟩ : ∃ j, j < 6 ∧ dg_lv (st_nd (bx_S u') r) = 5 - j := ⟨5 - dg_lv (st_nd (bx_S u') r), by omega, by omega⟩
          have hb : ∀ y, y < 2 ^ j → dg_ev (st_nd (bx_S u')) j (dg_lo (st_nd (bx_S u') r)) y = dg_ev (st_nd (bx_S u')) j (dg_hi (st_nd (bx_S u') r)) y := by
            intro y hy
            have hy6 : 2 ^ (j + 1) ≤ 64 := Nat.pow_le_pow_right (n := 2) (j := 6) (by decide) (by omega)
            have hp2 : 2 ^ (j + 1) = 2 * 2 ^ j := by rw [Nat.pow_succ]; omega
            have v0 := w3.2 y (by omega)
            have v1 := w3.2 (2 ^ j + y) (by omega)
            rw [dg_ev6 (j := j + 1) (by omega) (by omega), dg_ev_node hlj, Nat.testBit_lt_two_pow hy, if_neg (by decide)] at v0
            rw [dg_ev6 (j := j + 1) (by omega) (by omega), dg_ev_node hlj, Nat.testBit_two_pow_add_eq, Nat.testBit_lt_two_pow hy, if_pos (show (!false) = true from rfl), dg_ev_bits _ j _ _ y (fun i hi => Nat.testBit_two_pow_add_gt hi y)] at v1
            rw [v0, v1]
          exact absurd (dg_canon (st_W S1) (st_U S1) j (by omega) _ _ hin.1 hin.2.1 (by omega) (by omega) hb) hin.2.2.1
        · exact (dg_leaf (st_W S1) w3.1 z).1
      refine ⟨r, pk_us, w3.1, by omega, fun y hy => ?_⟩
      have hy0 : y = 0 := by have : (2 : Nat) ^ 0 = 1 := rfl; omega
      subst hy0
      have := w3.2 0 (by omega)
      rw [dg_ev_leaf hlf 6 0 (by omega)] at this
      rw [dg_ev_leaf hlf 0 0 (by omega), this]
      show _ = tm_v T s i (x * 2 ^ 0 + 0)
      unfold tm_v
      rw [if_neg ha, Nat.pow_zero, Nat.mul_one, Nat.add_zero]
    · exact ly_E (by omega) S E1 (by rw [pk_un e, eL]) (h1 x (by omega))
end
section
/-! treatments -/
theorem xi_w {post : Int32 → SX → Prop} {at_ a : Nat} (hat : at_ < 120) (ha : a ≤ 5) : ∀ u : SX, gx_actions u at_ = nI a → (a = 4 → ∀ Q : Int32 → SX → Prop, (∀ r u', post r u' → Q r u') → wpX_leaf Q u (nI 256)) → (a ≠ 4 → ∃ n20, wX_treatment_20 post (nI at_) n20 (nI 0) (gx_active u) (gx_outPlace u) (gx_outHeader u) (gx_freeNode u) (gx_freeCount u) (gx_keptDiagram u) (gx_depth u) (gx_got u) (gx_stamp u) (gx_links u) (gx_ruleCount u) (gx_matches u) (gx_actions u) (gx_changes u) (gx_states u) (gx_places u) (gx_headers u) (gx_tables u) (gx_treated u) (gx_nodes u) (gx_following u) (gx_marked u) (gx_bucket u) (gx_now u) (gx_next u) (gx_layer u) (gx_workLevel u) (gx_workOne u) (gx_workTwo u) (gx_workPhase u) (gx_workLow u) (gx_memoStamp u) (gx_memoOne u) (gx_memoTwo u) (gx_memoLevel u) (gx_memoGot u)) → wpX_treatment post u (nI at_) := by
  rintro ⟨f_active, f_outPlace, f_outHeader, f_freeNode, f_freeCount, f_keptDiagram, f_depth, f_got, f_stamp, a_links, a_ruleCount, a_matches, a_actions, a_changes, a_states, a_places, a_headers, a_tables, a_treated, a_nodes, a_following, a_marked, a_bucket, a_now, a_next, a_layer, a_workLevel, a_workOne, a_workTwo, a_workPhase, a_workLow, a_memoStamp, a_memoOne, a_memoTwo, a_memoLevel, a_memoGot⟩ ea h4 hn
  have ea' : a_actions (nI at_).toNatClampNeg = nI a := by rw [nI_clamp (by omega)]; exact ea
  refine And.intro (vp_in_nI hat (by decide)) (pk_eq a 4 (fun z => ?_) (fun z => ?_) ea' rfl)
  · refine h4 z _ ?_
    rintro r ⟨f_active2, f_outPlace2, f_outHeader2, f_freeNode2, f_freeCount2, f_keptDiagram2, f_depth2, f_got2, f_stamp2, a_links2, a_ruleCount2, a_matches2, a_actions2, a_changes2, a_states2, a_places2, a_headers2, a_tables2, a_treated2, a_nodes2, a_following2, a_marked2, a_bucket2, a_now2, a_next2, a_layer2, a_workLevel2, a_workOne2, a_workTwo2, a_workPhase2, a_workLow2, a_memoStamp2, a_memoOne2, a_memoTwo2, a_memoLevel2, a_memoGot2⟩ h
    exact h
  · exact hn z
theorem xd_treatment {post : Int32 → SX → Prop} {T : TB} {s i σ : Nat} {F : List Nat} (hs : s < 5) (hi : i < 6) (hT : tb_Ok T) (u : SX) (H : tx_Hd u 0 T) (S : st_Ok (bx_S u) F) (ms : ms_k u σ) (hF : 127 ≤ F.length) (hp : ∀ (r : Nat) (u' : SX) (F' : List Nat), xd_V 127 u F u' F' σ → dg_R (bx_S u') F' r (tm_v T s i) → post (nI r) u') : wpX_treatment post u (nI (6 * s + i)) := by
  have h30 : 6 * s + i < 30 := by omega
  have hr := hT.2 _ h30
  have Hd := H.2 _ h30
  rw [show 30 * 0 + (6 * s + i) = 6 * s + i by omega] at Hd
  refine xi_w (by omega) hr.2.1 u Hd.2.1 (fun z Q hQ => ?_) (fun z => ?_)
  · obtain ⟨r, u', F', w1, w2, w3⟩ := xd_leaf (v := 256) (by omega) (show 0 < F.length by omega) u S ms
    refine w1 _ (hQ _ _ (hp r u' F' (xd_V_le (xd_V_of w2) (by omega)) (dg_R_cg w3 (fun h _ => ?_))))
    unfold tm_v
    rw [if_pos z]
  · exact ⟨65, xi_20 hs hi hT H z hp 64 0 (by omega) u F (xd_V_r S ms) (fun x hx => absurd hx (by omega)) (by omega)⟩
def ts_r (T : TB) (s b j h : Nat) : Nat := (fr_b (fr_P T s b h) (tb_c T s - j) j).elim 256 (fun i => tm_v T s i h)
theorem ts_b {T : TB} {s j h : Nat} (hj : j < tb_c T s) : ts_r T s j j h = ts_r T s j (j + 1) h := by
  unfold ts_r
  rw [show tb_c T s - j = (tb_c T s - (j + 1)) + 1 by omega]
  show Option.elim (if fr_P T s j h j = true then some j else fr_b (fr_P T s j h) (tb_c T s - (j + 1)) (j + 1)) _ _ = _
  rw [if_neg (by unfold fr_P; simp)]
theorem ts_s {T : TB} {s b j h : Nat} (hj : j < tb_c T s) (hb : j ≠ b) : ts_r T s b j h = if mt_b (tb_m T (6 * s + j)) h 6 = true then tm_v T s j h else ts_r T s b (j + 1) h := by
  have hP : fr_P T s b h j = mt_b (tb_m T (6 * s + j)) h 6 := by
    unfold fr_P
    rw [show (j == b) = false from by rw [beq_eq_false_iff_ne]; exact hb]
    rfl
  unfold ts_r
  rw [show tb_c T s - j = (tb_c T s - (j + 1)) + 1 by omega]
  show Option.elim (if fr_P T s b h j = true then some j else fr_b (fr_P T s b h) (tb_c T s - (j + 1)) (j + 1)) _ _ = _
  rw [hP]
  by_cases z : mt_b (tb_m T (6 * s + j)) h 6 = true
  · rw [if_pos z, if_pos z]; rfl
  · rw [if_neg z, if_neg z]
theorem xj_s {post : Int32 → SX → Prop} {x2 : Int32} {s n r j m : Nat} (hs : s < 5) (hj : j < 6) : ∀ u : SX, (nI j = x2 → wX_treatments_18 post (nI s) x2 n (nI r) (nI j - 1) (gx_active u) (gx_outPlace u) (gx_outHeader u) (gx_freeNode u) (gx_freeCount u) (gx_keptDiagram u) (gx_depth u) (gx_got u) (gx_stamp u) (gx_links u) (gx_ruleCount u) (gx_matches u) (gx_actions u) (gx_changes u) (gx_states u) (gx_places u) (gx_headers u) (gx_tables u) (gx_treated u) (gx_nodes u) (gx_following u) (gx_marked u) (gx_bucket u) (gx_now u) (gx_next u) (gx_layer u) (gx_workLevel u) (gx_workOne u) (gx_workTwo u) (gx_workPhase u) (gx_workLow u) (gx_memoStamp u) (gx_memoOne u) (gx_memoTwo u) (gx_memoLevel u) (gx_memoGot u)) → (¬ nI j = x2 → ∀ Q : Int32 → SX → Prop, (∀ (o : Int32) (u1 : SX), (gx_matches u1 (6 * s + j) = nI m ∧ ∀ Q' : Int32 → SX → Prop, (∀ r' u', wX_treatments_18 post (nI s) x2 n r' (nI j - 1) (gx_active u') (gx_outPlace u') (gx_outHeader u') (gx_freeNode u') (gx_freeCount u') (gx_keptDiagram u') (gx_depth u') (gx_got u') (gx_stamp u') (gx_links u') (gx_ruleCount u') (gx_matches u') (gx_actions u') (gx_changes u') (gx_states u') (gx_places u') (gx_headers u') (gx_tables u') (gx_treated u') (gx_nodes u') (gx_following u') (gx_marked u') (gx_bucket u') (gx_now u') (gx_next u') (gx_layer u') (gx_workLevel u') (gx_workOne u') (gx_workTwo u') (gx_workPhase u') (gx_workLow u') (gx_memoStamp u') (gx_memoOne u') (gx_memoTwo u') (gx_memoLevel u') (gx_memoGot u') → Q' r' u') → wpX_choose Q' u1 (nI m) o (nI r)) → Q o u1) → wpX_treatment Q u (nI (6 * s + j))) → wX_treatments_18 post (nI s) x2 (n + 1) (nI r) (nI j) (gx_active u) (gx_outPlace u) (gx_outHeader u) (gx_freeNode u) (gx_freeCount u) (gx_keptDiagram u) (gx_depth u) (gx_got u) (gx_stamp u) (gx_links u) (gx_ruleCount u) (gx_matches u) (gx_actions u) (gx_changes u) (gx_states u) (gx_places u) (gx_headers u) (gx_tables u) (gx_treated u) (gx_nodes u) (gx_following u) (gx_marked u) (gx_bucket u) (gx_now u) (gx_next u) (gx_layer u) (gx_workLevel u) (gx_workOne u) (gx_workTwo u) (gx_workPhase u) (gx_workLow u) (gx_memoStamp u) (gx_memoOne u) (gx_memoTwo u) (gx_memoLevel u) (gx_memoGot u) := by
  rintro ⟨f_active, f_outPlace, f_outHeader, f_freeNode, f_freeCount, f_keptDiagram, f_depth, f_got, f_stamp, a_links, a_ruleCount, a_matches, a_actions, a_changes, a_states, a_places, a_headers, a_tables, a_treated, a_nodes, a_following, a_marked, a_bucket, a_now, a_next, a_layer, a_workLevel, a_workOne, a_workTwo, a_workPhase, a_workLow, a_memoStamp, a_memoOne, a_memoTwo, a_memoLevel, a_memoGot⟩ H1 H2
  have e : (6 : Int32) * nI s + nI j = nI (6 * s + j) := nb_6 s j
  have key : wX_treatments_18 post (nI s) x2 (n + 1) (nI r) (nI j) f_active f_outPlace f_outHeader f_freeNode f_freeCount f_keptDiagram f_depth f_got f_stamp a_links a_ruleCount a_matches a_actions a_changes a_states a_places a_headers a_tables a_treated a_nodes a_following a_marked a_bucket a_now a_next a_layer a_workLevel a_workOne a_workTwo a_workPhase a_workLow a_memoStamp a_memoOne a_memoTwo a_memoLevel a_memoGot := by
    refine br_f (nI_pos (by omega)) (br_c (fun z => nm_r (nb_am _) (H1 z)) (fun z => ?_))
    rw [e]
    refine H2 z _ ?_
    rintro o ⟨f_active2, f_outPlace2, f_outHeader2, f_freeNode2, f_freeCount2, f_keptDiagram2, f_depth2, f_got2, f_stamp2, a_links2, a_ruleCount2, a_matches2, a_actions2, a_changes2, a_states2, a_places2, a_headers2, a_tables2, a_treated2, a_nodes2, a_following2, a_marked2, a_bucket2, a_now2, a_next2, a_layer2, a_workLevel2, a_workOne2, a_workTwo2, a_workPhase2, a_workLow2, a_memoStamp2, a_memoOne2, a_memoTwo2, a_memoLevel2, a_memoGot2⟩ ⟨h1, h2⟩
    have e1 : a_matches2 (nI (6 * s + j)).toNatClampNeg = nI m := by rw [nI_clamp (by omega)]; exact h1
    have k2 : vp_in ((6 * nI s) + nI j) 120 ∧ (wpX_choose (fun r_81 u => match u with | (f_active3, f_outPlace3, f_outHeader3, f_freeNode3, f_freeCount3, f_keptDiagram3, f_depth3, f_got3, f_stamp3, a_links3, a_ruleCount3, a_matches3, a_actions3, a_changes3, a_states3, a_places3, a_headers3, a_tables3, a_treated3, a_nodes3, a_following3, a_marked3, a_bucket3, a_now3, a_next3, a_layer3, a_workLevel3, a_workOne3, a_workTwo3, a_workPhase3, a_workLow3, a_memoStamp3, a_memoOne3, a_memoTwo3, a_memoLevel3, a_memoGot3) => (∀ x4_118 : Int32, x4_118 = nI j + (-1) → (wX_treatments_18 post (nI s) x2 n r_81 x4_118 f_active3 f_outPlace3 f_outHeader3 f_freeNode3 f_freeCount3 f_keptDiagram3 f_depth3 f_got3 f_stamp3 a_links3 a_ruleCount3 a_matches3 a_actions3 a_changes3 a_states3 a_places3 a_headers3 a_tables3 a_treated3 a_nodes3 a_following3 a_marked3 a_bucket3 a_now3 a_next3 a_layer3 a_workLevel3 a_workOne3 a_workTwo3 a_workPhase3 a_workLow3 a_memoStamp3 a_memoOne3 a_memoTwo3 a_memoLevel3 a_memoGot3))) (f_active2, f_outPlace2, f_outHeader2, f_freeNode2, f_freeCount2, f_keptDiagram2, f_depth2, f_got2, f_stamp2, a_links2, a_ruleCount2, a_matches2, a_actions2, a_changes2, a_states2, a_places2, a_headers2, a_tables2, a_treated2, a_nodes2, a_following2, a_marked2, a_bucket2, a_now2, a_next2, a_layer2, a_workLevel2, a_workOne2, a_workTwo2, a_workPhase2, a_workLow2, a_memoStamp2, a_memoOne2, a_memoTwo2, a_memoLevel2, a_memoGot2) (a_matches2 ((6 * nI s) + nI j).toNatClampNeg) o (nI r)) := by
      rw [e, e1]
      refine And.intro (vp_in_nI (by omega) (by decide)) (h2 _ ?_)
      rintro r' ⟨f_active3, f_outPlace3, f_outHeader3, f_freeNode3, f_freeCount3, f_keptDiagram3, f_depth3, f_got3, f_stamp3, a_links3, a_ruleCount3, a_matches3, a_actions3, a_changes3, a_states3, a_places3, a_headers3, a_tables3, a_treated3, a_nodes3, a_following3, a_marked3, a_bucket3, a_now3, a_next3, a_layer3, a_workLevel3, a_workOne3, a_workTwo3, a_workPhase3, a_workLow3, a_memoStamp3, a_memoOne3, a_memoTwo3, a_memoLevel3, a_memoGot3⟩ h
      exact nm_r (nb_am _) h
    rw [e] at k2
    exact k2
  exact key
theorem xj_18 {post : Int32 → SX → Prop} {T : TB} {s b : Nat} {x2 : Int32} (hs : s < 5) (hT : tb_Ok T) (hb : ∀ j, j < 6 → (nI j = x2 ↔ j = b)) : ∀ j, j ≤ tb_c T s → ∀ (u : SX) (F : List Nat) (σ r : Nat), tx_Hd u 0 T → st_Ok (bx_S u) F → ms_k u σ → dg_R (bx_S u) F r (ts_r T s b j) → 190 * j ≤ F.length → σ + j < 2 ^ 31 → (∀ (r' : Nat) (u' : SX) (F' : List Nat) (σ' : Nat), xd_V (190 * j) u F u' F' σ' → σ' ≤ σ + j → dg_R (bx_S u') F' r' (ts_r T s b 0) → post (nI r') u') → wX_treatments_18 post (nI s) x2 (j + 1) (nI r) (nI j - 1) (gx_active u) (gx_outPlace u) (gx_outHeader u) (gx_freeNode u) (gx_freeCount u) (gx_keptDiagram u) (gx_depth u) (gx_got u) (gx_stamp u) (gx_links u) (gx_ruleCount u) (gx_matches u) (gx_actions u) (gx_changes u) (gx_states u) (gx_places u) (gx_headers u) (gx_tables u) (gx_treated u) (gx_nodes u) (gx_following u) (gx_marked u) (gx_bucket u) (gx_now u) (gx_next u) (gx_layer u) (gx_workLevel u) (gx_workOne u) (gx_workTwo u) (gx_workPhase u) (gx_workLow u) (gx_memoStamp u) (gx_memoOne u) (gx_memoTwo u) (gx_memoLevel u) (gx_memoGot u) := by
  intro j
  induction j with
  | zero =>
    intro _ u F σ r H S ms hr _ _ hp
    exact br_t (by decide) (hp r u F σ (xd_V_r S ms) (by omega) hr)
  | succ j ih =>
    intro hj u F σ r H S ms hr hF hσ hp
    have h6 := hT.1 s hs
    have h30 : 6 * s + j < 30 := by omega
    rw [nI_pred]
    refine xj_s (m := tb_m T (6 * s + j)) hs (by omega) u (fun z => ?_) (fun z Q hQ => ?_)
    · have ej := (hb j (by omega)).mp z
      refine ih (by omega) u F σ r H S ms (dg_R_cg hr (fun h _ => by rw [← ej]; exact (ts_b (T := T) (s := s) (j := j) (h := h) (by omega)).symm)) (by omega) (by omega) ?_
      intro r' u' F' σ' w1 w2 w3
      exact hp r' u' F' σ' (xd_V_le w1 (by omega)) (by omega) w3
    · have ej : j ≠ b := fun y => z ((hb j (by omega)).mpr y)
      refine xd_treatment hs (by omega) hT u H S ms (by omega) ?_
      intro o u1 F1 w2 w3
      have w2' := w2
      obtain ⟨S1, E1, l1, C1, k1⟩ := w2
      have e1 : gx_matches u1 (6 * s + j) = nI (tb_m T (6 * s + j)) := by
        rw [xC_mat C1]
        have := (H.2 _ h30).1
        rw [show 30 * 0 + (6 * s + j) = 6 * s + j by omega] at this
        exact this
      refine hQ _ _ ⟨e1, fun Q' hQ' => ?_⟩
      obtain ⟨r2, u2, F2, v1, v2, v3⟩ := xd_choose (m := tb_m T (6 * s + j)) (hT.2 _ h30).1 (F := F1) (by omega) (σ := σ) (by omega) u1 S1 k1 w3 (dg_R_E S E1 hr)
      have v2' := xd_V_of v2
      obtain ⟨S2, E2, l2, C2, D2, k2⟩ := v2
      refine v1 _ (hQ' _ _ (ih (by omega) u2 F2 (σ + 1) r2 (xC_Hd (C2.trans C1) H) S2 k2 (dg_R_cg v3 (fun h _ => (ts_s (by omega) ej).symm)) (by omega) (by omega) ?_))
      intro r' u' F' σ' y1 y2 y3
      exact hp r' u' F' σ' (xd_V_le (xd_V_t (xd_V_t w2' v2') y1) (by omega)) (by omega) y3
theorem xj_w {post : Int32 → SX → Prop} {x2 : Int32} {s : Nat} (hs : s < 5) : ∀ u : SX, (∀ Q : Int32 → SX → Prop, (∀ r u', (∃ n18, wX_treatments_18 post (nI s) x2 n18 r (gx_ruleCount u' s - 1) (gx_active u') (gx_outPlace u') (gx_outHeader u') (gx_freeNode u') (gx_freeCount u') (gx_keptDiagram u') (gx_depth u') (gx_got u') (gx_stamp u') (gx_links u') (gx_ruleCount u') (gx_matches u') (gx_actions u') (gx_changes u') (gx_states u') (gx_places u') (gx_headers u') (gx_tables u') (gx_treated u') (gx_nodes u') (gx_following u') (gx_marked u') (gx_bucket u') (gx_now u') (gx_next u') (gx_layer u') (gx_workLevel u') (gx_workOne u') (gx_workTwo u') (gx_workPhase u') (gx_workLow u') (gx_memoStamp u') (gx_memoOne u') (gx_memoTwo u') (gx_memoLevel u') (gx_memoGot u')) → Q r u') → wpX_leaf Q u (nI 256)) → wpX_treatments post u (nI s) x2 := by
  rintro ⟨f_active, f_outPlace, f_outHeader, f_freeNode, f_freeCount, f_keptDiagram, f_depth, f_got, f_stamp, a_links, a_ruleCount, a_matches, a_actions, a_changes, a_states, a_places, a_headers, a_tables, a_treated, a_nodes, a_following, a_marked, a_bucket, a_now, a_next, a_layer, a_workLevel, a_workOne, a_workTwo, a_workPhase, a_workLow, a_memoStamp, a_memoOne, a_memoTwo, a_memoLevel, a_memoGot⟩ H
  have key : wpX_leaf (fun r_1 u => match u with | (f_active2, f_outPlace2, f_outHeader2, f_freeNode2, f_freeCount2, f_keptDiagram2, f_depth2, f_got2, f_stamp2, a_links2, a_ruleCount2, a_matches2, a_actions2, a_changes2, a_states2, a_places2, a_headers2, a_tables2, a_treated2, a_nodes2, a_following2, a_marked2, a_bucket2, a_now2, a_next2, a_layer2, a_workLevel2, a_workOne2, a_workTwo2, a_workPhase2, a_workLow2, a_memoStamp2, a_memoOne2, a_memoTwo2, a_memoLevel2, a_memoGot2) => (vp_in (nI s) 20 ∧ (∀ x4_39 : Int32, x4_39 = (a_ruleCount2 (nI s).toNatClampNeg) - 1 → (∃ n18 : Nat, wX_treatments_18 post (nI s) x2 n18 r_1 x4_39 f_active2 f_outPlace2 f_outHeader2 f_freeNode2 f_freeCount2 f_keptDiagram2 f_depth2 f_got2 f_stamp2 a_links2 a_ruleCount2 a_matches2 a_actions2 a_changes2 a_states2 a_places2 a_headers2 a_tables2 a_treated2 a_nodes2 a_following2 a_marked2 a_bucket2 a_now2 a_next2 a_layer2 a_workLevel2 a_workOne2 a_workTwo2 a_workPhase2 a_workLow2 a_memoStamp2 a_memoOne2 a_memoTwo2 a_memoLevel2 a_memoGot2)))) (f_active, f_outPlace, f_outHeader, f_freeNode, f_freeCount, f_keptDiagram, f_depth, f_got, f_stamp, a_links, a_ruleCount, a_matches, a_actions, a_changes, a_states, a_places, a_headers, a_tables, a_treated, a_nodes, a_following, a_marked, a_bucket, a_now, a_next, a_layer, a_workLevel, a_workOne, a_workTwo, a_workPhase, a_workLow, a_memoStamp, a_memoOne, a_memoTwo, a_memoLevel, a_memoGot) 256 := by
    refine H _ ?_
    rintro r ⟨f_active2, f_outPlace2, f_outHeader2, f_freeNode2, f_freeCount2, f_keptDiagram2, f_depth2, f_got2, f_stamp2, a_links2, a_ruleCount2, a_matches2, a_actions2, a_changes2, a_states2, a_places2, a_headers2, a_tables2, a_treated2, a_nodes2, a_following2, a_marked2, a_bucket2, a_now2, a_next2, a_layer2, a_workLevel2, a_workOne2, a_workTwo2, a_workPhase2, a_workLow2, a_memoStamp2, a_memoOne2, a_memoTwo2, a_memoLevel2, a_memoGot2⟩ h
    refine And.intro (vp_in_nI (by omega) (by decide)) ?_
    rw [nI_clamp (by omega)]
    exact nm_e h
  exact key
theorem xd_treatments {post : Int32 → SX → Prop} {T : TB} {s b σ : Nat} {x2 : Int32} {F : List Nat} (hs : s < 5) (hT : tb_Ok T) (hb : ∀ j, j < 6 → (nI j = x2 ↔ j = b)) (u : SX) (H : tx_Hd u 0 T) (S : st_Ok (bx_S u) F) (ms : ms_k u σ) (hF : 1141 ≤ F.length) (hσ : σ + 6 < 2 ^ 31) (hp : ∀ (r : Nat) (u' : SX) (F' : List Nat) (σ' : Nat), xd_V 1141 u F u' F' σ' → σ' ≤ σ + 6 → dg_R (bx_S u') F' r (ts_r T s b 0) → post (nI r) u') : wpX_treatments post u (nI s) x2 := by
  have h6 := hT.1 s hs
  obtain ⟨r, u1, F1, w1, w2, w3⟩ := xd_leaf (v := 256) (by omega) (show 0 < F.length by omega) u S ms
  have w2' := xd_V_of w2
  obtain ⟨S1, E1, l1, C1, D1, k1⟩ := w2
  refine xj_w hs u (fun Q hQ => w1 _ (hQ _ _ ⟨tb_c T s + 1, ?_⟩))
  rw [show gx_ruleCount u1 s = nI (tb_c T s) from by
    rw [xC_cnt C1]
    have := H.1 s hs
    rw [show 5 * 0 + s = s by omega] at this
    exact this]
  refine xj_18 hs hT hb (tb_c T s) (Nat.le_refl _) u1 F1 σ r (xC_Hd C1 H) S1 k1 (dg_R_cg w3 (fun h _ => ?_)) (by omega) (by omega) ?_
  · unfold ts_r
    rw [Nat.sub_self]; rfl
  · intro r' u' F' σ' y1 y2 y3
    exact hp r' u' F' σ' (xd_V_le (xd_V_t w2' y1) (by omega)) (by omega) y3
end
section
/-! turning away arguments; the relation -/
theorem bd_nn {N : Nat} {x : Int32} (hN : N < 2 ^ 31) (h : nI N ≤ x) : ¬ x < 0 := Int32.not_lt.mpr (Int32.le_trans (nI_pos' hN) h)
theorem bd_le {N : Nat} {x : Int32} (hN : N + 1 < 2 ^ 31) (h : nI (N + 1) ≤ x) : ¬ x ≤ nI N := Int32.not_le.mpr (Int32.lt_of_lt_of_le (nI_lt (Nat.lt_succ_self N) hN) h)
theorem bd_lt {N : Nat} {x : Int32} (hN : N + 1 < 2 ^ 31) (h : nI (N + 1) ≤ x) : nI N < x := Int32.lt_of_lt_of_le (nI_lt (Nat.lt_succ_self N) hN) h
section
variable {A B : Prop} {x : Int32}
theorem c1_b (N : Nat) (hN : N < 2 ^ 31) (h : bd_o N x) (a : A) : (x < 0 → A) ∧ (¬ x < 0 → ((nI N ≤ x → A) ∧ (¬ nI N ≤ x → B))) := by
  rcases h with h | h
  · exact br_t h a
  · exact br_f (bd_nn hN h) (br_t h a)
theorem c1_g {j : Nat} (N : Nat) (hN : N < 2 ^ 31) (h : j < N) (b : B) : (nI j < 0 → A) ∧ (¬ nI j < 0 → ((nI N ≤ nI j → A) ∧ (¬ nI N ≤ nI j → B))) := br_f (nI_pos (by omega)) (br_f (nI_ge h hN) b)
theorem c2_b (N : Nat) (hN : N + 1 < 2 ^ 31) (h : bd_o (N + 1) x) (a : A) : (x < 0 → A) ∧ (¬ x < 0 → ((nI N < x → A) ∧ (¬ nI N < x → B))) := by
  rcases h with h | h
  · exact br_t h a
  · exact br_f (bd_nn hN h) (br_t (bd_lt hN h) a)
theorem c2_g {j : Nat} (N : Nat) (hN : N + 1 < 2 ^ 31) (h : j < N + 1) (b : B) : (nI j < 0 → A) ∧ (¬ nI j < 0 → ((nI N < nI j → A) ∧ (¬ nI N < nI j → B))) := br_f (nI_pos (by omega)) (br_f (nI_nlt (by omega) (by omega)) b)
theorem c3_b (N : Nat) (hN : N < 2 ^ 31) (h : bd_o N x) (a : A) : (x < 0 → A) ∧ (¬ x < 0 → ((x < nI N → B) ∧ (¬ x < nI N → A))) := by
  rcases h with h | h
  · exact br_t h a
  · exact br_f (bd_nn hN h) (br_f (Int32.not_lt.mpr h) a)
theorem c3_g {j : Nat} (N : Nat) (hN : N < 2 ^ 31) (h : j < N) (b : B) : (nI j < 0 → A) ∧ (¬ nI j < 0 → ((nI j < nI N → B) ∧ (¬ nI j < nI N → A))) := br_f (nI_pos (by omega)) (br_t (nI_lt h hN) b)
theorem c4_b (N : Nat) (hN : N + 1 < 2 ^ 31) (h : bd_o (N + 1) x) (a : A) : (x < 0 → A) ∧ (¬ x < 0 → ((x ≤ nI N → B) ∧ (¬ x ≤ nI N → A))) := by
  rcases h with h | h
  · exact br_t h a
  · exact br_f (bd_nn hN h) (br_f (bd_le hN h) a)
theorem c4_g {j : Nat} (N : Nat) (hN : N + 1 < 2 ^ 31) (h : j < N + 1) (b : B) : (nI j < 0 → A) ∧ (¬ nI j < 0 → ((nI j ≤ nI N → B) ∧ (¬ nI j ≤ nI N → A))) := br_f (nI_pos (by omega)) (br_t (nI_le (by omega) (by omega)) b)
end
theorem xP_b {post : Int32 → Prop} {x : Int32} (h : bd_o 20 x) (hp : post 0) : wpX_isPlace post x := c1_b 20 (by decide) h hp
theorem xP_g {post : Int32 → Prop} {j : Nat} (h : j < 20) (hp : post 1) : wpX_isPlace post (nI j) := c1_g 20 (by decide) h hp
theorem xH_b {post : Int32 → Prop} {x : Int32} (h : bd_o 64 x) (hp : post 0) : wpX_isHeader post x := c1_b 64 (by decide) h hp
theorem xH_g {post : Int32 → Prop} {j : Nat} (h : j < 64) (hp : post 1) : wpX_isHeader post (nI j) := c1_g 64 (by decide) h hp
theorem xS_b {post : Int32 → Prop} {x : Int32} (h : bd_o 5 x) (hp : post 0) : wpX_isSwitch post x := c1_b 5 (by decide) h hp
theorem xS_g {post : Int32 → Prop} {j : Nat} (h : j < 5) (hp : post 1) : wpX_isSwitch post (nI j) := c1_g 5 (by decide) h hp
theorem xK_b {post : Int32 → Prop} {x : Int32} (h : bd_o 8 x) (hp : post 0) : wpX_isPacket post x := c1_b 8 (by decide) h hp
theorem xK_g {post : Int32 → Prop} {j : Nat} (h : j < 8) (hp : post 1) : wpX_isPacket post (nI j) := c1_g 8 (by decide) h hp
theorem xF_b {post : Int32 → Prop} {x : Int32} (h : bd_o 40 x) (hp : post 0) : wpX_isFrom post x := c1_b 40 (by decide) h hp
theorem xF_g {post : Int32 → Prop} {j : Nat} (h : j < 40) (hp : post 1) : wpX_isFrom post (nI j) := c1_g 40 (by decide) h hp
theorem yP_b {post : Int32 → Prop} {x : Int32} (h : bd_o 20 x) : ∀ v : SY, post 1 → wpY_badPlace post v x := by
  rintro ⟨f_active, f_outPlace, f_outHeader, f_seen, a_links, a_sizes, a_matches, a_actions, a_changes, a_states, a_places, a_headers, a_tables, a_treated⟩ hp
  exact c4_b 19 (by decide) h hp
theorem yP_g {post : Int32 → Prop} {j : Nat} (h : j < 20) : ∀ v : SY, post 0 → wpY_badPlace post v (nI j) := by
  rintro ⟨f_active, f_outPlace, f_outHeader, f_seen, a_links, a_sizes, a_matches, a_actions, a_changes, a_states, a_places, a_headers, a_tables, a_treated⟩ hp
  exact c4_g 19 (by decide) h hp
theorem yH_b {post : Int32 → Prop} {x : Int32} (h : bd_o 64 x) : ∀ v : SY, post 1 → wpY_badByte post v x := by
  rintro ⟨f_active, f_outPlace, f_outHeader, f_seen, a_links, a_sizes, a_matches, a_actions, a_changes, a_states, a_places, a_headers, a_tables, a_treated⟩ hp
  exact c4_b 63 (by decide) h hp
theorem yH_g {post : Int32 → Prop} {j : Nat} (h : j < 64) : ∀ v : SY, post 0 → wpY_badByte post v (nI j) := by
  rintro ⟨f_active, f_outPlace, f_outHeader, f_seen, a_links, a_sizes, a_matches, a_actions, a_changes, a_states, a_places, a_headers, a_tables, a_treated⟩ hp
  exact c4_g 63 (by decide) h hp
theorem yF_b {post : Int32 → Prop} {x : Int32} (h : bd_o 40 x) : ∀ v : SY, post 1 → wpY_badFrom post v x := by
  rintro ⟨f_active, f_outPlace, f_outHeader, f_seen, a_links, a_sizes, a_matches, a_actions, a_changes, a_states, a_places, a_headers, a_tables, a_treated⟩ hp
  exact c4_b 39 (by decide) h hp
theorem yF_g {post : Int32 → Prop} {j : Nat} (h : j < 40) : ∀ v : SY, post 0 → wpY_badFrom post v (nI j) := by
  rintro ⟨f_active, f_outPlace, f_outHeader, f_seen, a_links, a_sizes, a_matches, a_actions, a_changes, a_states, a_places, a_headers, a_tables, a_treated⟩ hp
  exact c4_g 39 (by decide) h hp
/-- a packet in flight, on both sides -/
def rc_P (TT : Nat → TB) (π : Nat → Nat) (u : SX) (v : SY) (k : Nat) : Prop := ∃ t p h n : Nat, 1 ≤ t ∧ t < 4 ∧ p < 20 ∧ h < 64 ∧ n < 16 ∧ gx_tables u k = nI t ∧ gy_tables v k = nI (π t) ∧ gx_places u k = nI p ∧ gx_headers u k = nI h ∧ gx_treated u k = nI n ∧ gy_treated v k = nI n ∧ tx_Hd u t (TT t) ∧ ty_Hd v (π t) (TT t)
/-- the states without the diagrams -/
def rc_R (T0 : TB) (TT : Nat → TB) (π : Nat → Nat) (a : Nat) (u : SX) (v : SY) : Prop := (tb_Ok T0 ∧ (∀ t, tb_Ok (TT t)) ∧ tx_Hd u 0 T0 ∧ ty_Hd v 0 T0) ∧ ((∀ t, 1 ≤ t → t < 4 → 1 ≤ π t ∧ π t < 4) ∧ ∀ s t, 1 ≤ s → s < 4 → 1 ≤ t → t < 4 → π s = π t → s = t) ∧ (1 ≤ a ∧ a < 4 ∧ gx_active u = nI a ∧ gy_active v = nI (π a) ∧ tx_Hd u a (TT a) ∧ ty_Hd v (π a) (TT a)) ∧ (gx_links u = gy_links v ∧ lk_Ok (gx_links u) ∧ gx_states u = gy_states v ∧ gx_places u = gy_places v ∧ gx_headers u = gy_headers v) ∧ ∀ k, k < 8 → gx_states u k = 1 → rc_P TT π u v k
/-- the relation: also, stamps grow by 7680 a turn at most -/
def i_Rel (k : Nat) (u : SX) (v : SY) : Prop := (∃ T0 TT π a, rc_R T0 TT π a u v) ∧ ∃ σ, ms_k u σ ∧ σ ≤ 1536 * k
theorem i_up {k : Nat} {u : SX} {v : SY} (h : i_Rel k u v) : i_Rel (k + 5) u v := by
  obtain ⟨h1, σ, h2, h3⟩ := h
  exact ⟨h1, σ, h2, by omega⟩
theorem xC_a {u u' : SX} (h : bx_C u' = bx_C u) : gx_active u' = gx_active u := congrArg (fun z => z.1) h
theorem xC_st {u u' : SX} (h : bx_C u' = bx_C u) : gx_states u' = gx_states u := congrArg (fun z => z.2.2.2.2.2.2.2.2.1) h
theorem xC_pl {u u' : SX} (h : bx_C u' = bx_C u) : gx_places u' = gx_places u := congrArg (fun z => z.2.2.2.2.2.2.2.2.2.1) h
theorem xC_hd {u u' : SX} (h : bx_C u' = bx_C u) : gx_headers u' = gx_headers u := congrArg (fun z => z.2.2.2.2.2.2.2.2.2.2.1) h
theorem xC_tb {u u' : SX} (h : bx_C u' = bx_C u) : gx_tables u' = gx_tables u := congrArg (fun z => z.2.2.2.2.2.2.2.2.2.2.2.1) h
theorem xC_tr {u u' : SX} (h : bx_C u' = bx_C u) : gx_treated u' = gx_treated u := congrArg (fun z => z.2.2.2.2.2.2.2.2.2.2.2.2) h
theorem rc_C {T0 : TB} {TT : Nat → TB} {π : Nat → Nat} {a : Nat} {u u' : SX} {v : SY} (h : bx_C u' = bx_C u) (R : rc_R T0 TT π a u v) : rc_R T0 TT π a u' v := by
  unfold rc_R rc_P tx_Hd
  rw [xC_a h, xC_links h, xC_cnt h, xC_mat h, xC_act h, xC_chg h, xC_st h, xC_pl h, xC_hd h, xC_tb h, xC_tr h]
  exact R
theorem rc_x {T0 : TB} {TT : Nat → TB} {π : Nat → Nat} {a : Nat} {u : SX} {v : SY} (p h : Int32) (R : rc_R T0 TT π a u v) : rc_R T0 TT π a (sx_out u p h) v := R
theorem rc_y {T0 : TB} {TT : Nat → TB} {π : Nat → Nat} {a : Nat} {u : SX} {v : SY} (p h s : Int32) (R : rc_R T0 TT π a u v) : rc_R T0 TT π a u (sy_ohs v p h s) := R
theorem ms_x {u : SX} {σ : Nat} (p h : Int32) (H : ms_k u σ) : ms_k (sx_out u p h) σ := H
theorem rl_x2 {k : Nat} {u : SX} {v : SY} (p h : Int32) (R : i_Rel k u v) : i_Rel k (sx_out u p h) v := by
  obtain ⟨⟨T0, TT, π, a, R⟩, σ, m1, m2⟩ := R
  exact ⟨⟨T0, TT, π, a, rc_x p h R⟩, σ, ms_x p h m1, m2⟩
theorem rl_y2 {k : Nat} {u : SX} {v : SY} (p h s : Int32) (R : i_Rel k u v) : i_Rel k u (sy_ohs v p h s) := by
  obtain ⟨⟨T0, TT, π, a, R⟩, σ, m1, m2⟩ := R
  exact ⟨⟨T0, TT, π, a, rc_y p h s R⟩, σ, m1, m2⟩
/-- links on both sides -/
theorem rl_l {k : Nat} {u : SX} {v : SY} (l : Nat → Int32) (hl : lk_Ok l) (R : i_Rel k u v) : i_Rel k (sx_links u l) (sy_links v l) := by
  obtain ⟨⟨T0, TT, π, a, R1, R2, R3, R4, R5⟩, σ, m1, m2⟩ := R
  exact ⟨⟨T0, TT, π, a, R1, R2, R3, ⟨rfl, hl, R4.2.2⟩, R5⟩, σ, m1, m2⟩
theorem rl_lk {k : Nat} {u : SX} {v : SY} (R : i_Rel k u v) : gx_links u = gy_links v ∧ lk_Ok (gx_links u) := by
  obtain ⟨⟨T0, TT, π, a, R1, R2, R3, R4, R5⟩, σ, m1, m2⟩ := R
  exact ⟨R4.1, R4.2.1⟩
theorem rl_st {k : Nat} {u : SX} {v : SY} (R : i_Rel k u v) : gx_states u = gy_states v ∧ gx_places u = gy_places v ∧ gx_headers u = gy_headers v := by
  obtain ⟨⟨T0, TT, π, a, R1, R2, R3, R4, R5⟩, σ, m1, m2⟩ := R
  exact R4.2.2
theorem lk_u {l : Nat → Int32} (H : lk_Ok l) (p : Nat) {x : Int32} (hx : x = -1 ∨ ∃ q, q < 20 ∧ x = nI q) : lk_Ok (upd l p x) := by
  intro q hq
  by_cases e : q = p
  · rw [e, pk_us]; exact hx
  · rw [pk_un e]; exact H q hq
end
section
/-! the constructors, links, and what only reads -/
def li_f (n : Nat) : Nat → Int32 := fun j => if j < n then -1 else 0
theorem li_s (n : Nat) : upd (li_f n) n (-1) = li_f (n + 1) := by
  funext j
  unfold upd li_f
  by_cases e : j = n
  · rw [if_pos e, if_pos (by omega)]
  · rw [if_neg e]
    by_cases h : j < n
    · rw [if_pos h, if_pos (by omega)]
    · rw [if_neg h, if_neg (by omega)]
theorem li_0 : li_f 0 = fun _ => 0 := by
  funext j
  unfold li_f
  rw [if_neg (by omega)]
theorem in_x {post : SX → Prop} (hp : post ((1 : Int32), (0 : Int32), (0 : Int32), (0 : Int32), (0 : Int32), (0 : Int32), (0 : Int32), (0 : Int32), (0 : Int32), li_f 20, (fun _ => 0 : Nat → Int32), (fun _ => 0 : Nat → Int32), (fun _ => 0 : Nat → Int32), (fun _ => 0 : Nat → Int32), (fun _ => 0 : Nat → Int32), (fun _ => 0 : Nat → Int32), (fun _ => 0 : Nat → Int32), (fun _ => 0 : Nat → Int32), (fun _ => 0 : Nat → Int32), (fun _ => 0 : Nat → Int32), (fun _ => 0 : Nat → Int32), (fun _ => 0 : Nat → Int32), (fun _ => 0 : Nat → Int32), (fun _ => 0 : Nat → Int32), (fun _ => 0 : Nat → Int32), (fun _ => 0 : Nat → Int32), (fun _ => 0 : Nat → Int32), (fun _ => 0 : Nat → Int32), (fun _ => 0 : Nat → Int32), (fun _ => 0 : Nat → Int32), (fun _ => 0 : Nat → Int32), (fun _ => 0 : Nat → Int32), (fun _ => 0 : Nat → Int32), (fun _ => 0 : Nat → Int32), (fun _ => 0 : Nat → Int32), (fun _ => 0 : Nat → Int32))) : ∀ d i, i + d = 20 → wX_init_231 post 0 0 0 0 0 0 0 0 0 (d + 1) (nI i) (li_f i) (fun _ => 0) (fun _ => 0) (fun _ => 0) (fun _ => 0) (fun _ => 0) (fun _ => 0) (fun _ => 0) (fun _ => 0) (fun _ => 0) (fun _ => 0) (fun _ => 0) (fun _ => 0) (fun _ => 0) (fun _ => 0) (fun _ => 0) (fun _ => 0) (fun _ => 0) (fun _ => 0) (fun _ => 0) (fun _ => 0) (fun _ => 0) (fun _ => 0) (fun _ => 0) (fun _ => 0) (fun _ => 0) (fun _ => 0) := by
  intro d
  induction d with
  | zero =>
    intro i hi
    have e : i = 20 := by omega
    subst e
    exact br_t (by decide) hp
  | succ d ih =>
    intro i hi
    refine br_f (nI_ge (b := 20) (by omega) (by decide)) (And.intro (vp_in_nI (by omega) (by decide)) ?_)
    rw [nI_clamp (by omega), li_s]
    exact nm_e (nm_r (nI_1 i) (ih (i + 1) (by omega)))
theorem in_y {post : SY → Prop} (hp : post ((1 : Int32), (0 : Int32), (0 : Int32), (0 : Int32), li_f 20, (fun _ => 0 : Nat → Int32), (fun _ => 0 : Nat → Int32), (fun _ => 0 : Nat → Int32), (fun _ => 0 : Nat → Int32), (fun _ => 0 : Nat → Int32), (fun _ => 0 : Nat → Int32), (fun _ => 0 : Nat → Int32), (fun _ => 0 : Nat → Int32), (fun _ => 0 : Nat → Int32))) : ∀ d i, i + d = 20 → wY_init_91 post 1 0 0 0 (d + 1) (nI i) (li_f i) (fun _ => 0) (fun _ => 0) (fun _ => 0) (fun _ => 0) (fun _ => 0) (fun _ => 0) (fun _ => 0) (fun _ => 0) (fun _ => 0) := by
  intro d
  induction d with
  | zero =>
    intro i hi
    have e : i = 20 := by omega
    subst e
    exact br_t (by decide) hp
  | succ d ih =>
    intro i hi
    refine br_f (nI_ge (b := 20) (by omega) (by decide)) (And.intro (vp_in_nI (by omega) (by decide)) ?_)
    rw [nI_clamp (by omega), li_s]
    exact nm_e (nm_r (nI_1 i) (ih (i + 1) (by omega)))
theorem in_ok : lk_Ok (li_f 20) := by
  intro p hp
  refine Or.inl ?_
  unfold li_f
  rw [if_pos hp]
theorem in_rel : i_Rel 0 ((1 : Int32), (0 : Int32), (0 : Int32), (0 : Int32), (0 : Int32), (0 : Int32), (0 : Int32), (0 : Int32), (0 : Int32), li_f 20, (fun _ => 0 : Nat → Int32), (fun _ => 0 : Nat → Int32), (fun _ => 0 : Nat → Int32), (fun _ => 0 : Nat → Int32), (fun _ => 0 : Nat → Int32), (fun _ => 0 : Nat → Int32), (fun _ => 0 : Nat → Int32), (fun _ => 0 : Nat → Int32), (fun _ => 0 : Nat → Int32), (fun _ => 0 : Nat → Int32), (fun _ => 0 : Nat → Int32), (fun _ => 0 : Nat → Int32), (fun _ => 0 : Nat → Int32), (fun _ => 0 : Nat → Int32), (fun _ => 0 : Nat → Int32), (fun _ => 0 : Nat → Int32), (fun _ => 0 : Nat → Int32), (fun _ => 0 : Nat → Int32), (fun _ => 0 : Nat → Int32), (fun _ => 0 : Nat → Int32), (fun _ => 0 : Nat → Int32), (fun _ => 0 : Nat → Int32), (fun _ => 0 : Nat → Int32), (fun _ => 0 : Nat → Int32), (fun _ => 0 : Nat → Int32), (fun _ => 0 : Nat → Int32)) ((1 : Int32), (0 : Int32), (0 : Int32), (0 : Int32), li_f 20, (fun _ => 0 : Nat → Int32), (fun _ => 0 : Nat → Int32), (fun _ => 0 : Nat → Int32), (fun _ => 0 : Nat → Int32), (fun _ => 0 : Nat → Int32), (fun _ => 0 : Nat → Int32), (fun _ => 0 : Nat → Int32), (fun _ => 0 : Nat → Int32), (fun _ => 0 : Nat → Int32)) := by
  refine ⟨⟨(fun _ => 0, fun _ => 0, fun _ => 0, fun _ => 0), fun _ => (fun _ => 0, fun _ => 0, fun _ => 0, fun _ => 0), fun t => t, 1, ?_⟩, 0, ⟨rfl, fun i _ => ⟨0, Nat.le_refl _, rfl⟩⟩, by omega⟩
  have hT : tb_Ok (fun _ => 0, fun _ => 0, fun _ => 0, fun _ => 0) := ⟨fun _ _ => by show 0 ≤ 6; omega, fun _ _ => ⟨by show 0 < 4096; omega, by show 0 ≤ 5; omega, by show 0 < 4096; omega⟩⟩
  have hH : ∀ t, tb_Hd (fun _ => 0) (fun _ => 0) (fun _ => 0) (fun _ => 0) t (fun _ => 0, fun _ => 0, fun _ => 0, fun _ => 0) := fun t => ⟨fun _ _ => rfl, fun _ _ => ⟨rfl, rfl, rfl⟩⟩
  refine ⟨⟨hT, fun _ => hT, hH 0, hH 0⟩, ⟨fun t h1 h2 => ⟨h1, h2⟩, fun s t _ _ _ _ e => e⟩, ⟨by omega, by omega, rfl, rfl, hH 1, hH 1⟩, ⟨rfl, in_ok, rfl, rfl, rfl⟩, fun k _ h => ?_⟩
  have h' : (0 : Int32) = 1 := h
  exact absurd h' (by decide)
theorem i_vc0 : wpX_init (fun u => wpY_init (fun v => i_Rel 0 u v)) := by
  have k1 := in_x (post := fun u => wpY_init (fun v => i_Rel 0 u v)) (by
    have k2 := in_y (post := fun v => i_Rel 0 ((1 : Int32), (0 : Int32), (0 : Int32), (0 : Int32), (0 : Int32), (0 : Int32), (0 : Int32), (0 : Int32), (0 : Int32), li_f 20, (fun _ => 0 : Nat → Int32), (fun _ => 0 : Nat → Int32), (fun _ => 0 : Nat → Int32), (fun _ => 0 : Nat → Int32), (fun _ => 0 : Nat → Int32), (fun _ => 0 : Nat → Int32), (fun _ => 0 : Nat → Int32), (fun _ => 0 : Nat → Int32), (fun _ => 0 : Nat → Int32), (fun _ => 0 : Nat → Int32), (fun _ => 0 : Nat → Int32), (fun _ => 0 : Nat → Int32), (fun _ => 0 : Nat → Int32), (fun _ => 0 : Nat → Int32), (fun _ => 0 : Nat → Int32), (fun _ => 0 : Nat → Int32), (fun _ => 0 : Nat → Int32), (fun _ => 0 : Nat → Int32), (fun _ => 0 : Nat → Int32), (fun _ => 0 : Nat → Int32), (fun _ => 0 : Nat → Int32), (fun _ => 0 : Nat → Int32), (fun _ => 0 : Nat → Int32), (fun _ => 0 : Nat → Int32), (fun _ => 0 : Nat → Int32), (fun _ => 0 : Nat → Int32)) v) in_rel 20 0 (by omega)
    rw [li_0] at k2
    exact Exists.intro _ k2) 20 0 (by omega)
  rw [li_0] at k1
  exact Exists.intro _ k1
theorem i_vc_link {k : Nat} {u : SX} {v : SY} (I : i_Rel k u v) (hk : k + 5 ≤ 2560) (v1 : Int32) (v2 : Int32) : wpX_link (fun r u' => wpY_link (fun r' v' => r' = r ∧ i_Rel (k + 5) u' v') v v1 v2) u v1 v2 := by
  have R := i_up I
  obtain ⟨el, hl⟩ := rl_lk I
  have RL := fun l h => rl_l (k := k + 5) (u := u) (v := v) l h R
  clear I
  obtain ⟨f_active, f_outPlace, f_outHeader, f_freeNode, f_freeCount, f_keptDiagram, f_depth, f_got, f_stamp, a_links, a_ruleCount, a_matches, a_actions, a_changes, a_states, a_places, a_headers, a_tables, a_treated, a_nodes, a_following, a_marked, a_bucket, a_now, a_next, a_layer, a_workLevel, a_workOne, a_workTwo, a_workPhase, a_workLow, a_memoStamp, a_memoOne, a_memoTwo, a_memoLevel, a_memoGot⟩ := u
  obtain ⟨g_active, g_outPlace, g_outHeader, g_seen, b_links, b_sizes, b_matches, b_actions, b_changes, b_states, b_places, b_headers, b_tables, b_treated⟩ := v
  have el' : a_links = b_links := el
  subst el'
  unfold wpX_link
  rcases bd_or 20 (by decide) v1 with h1 | ⟨a, ha, rfl⟩
  · refine xP_b h1 ?_
    refine br_t rfl ?_
    unfold wpY_link
    refine yP_b h1 _ ?_
    exact br_f (by decide) ⟨rfl, R⟩
  refine xP_g ha ?_
  refine br_f (by decide) ?_
  rcases bd_or 20 (by decide) v2 with h2 | ⟨b, hb, rfl⟩
  · refine xP_b h2 ?_
    refine br_t rfl ?_
    unfold wpY_link
    refine yP_g ha _ ?_
    refine br_t rfl ?_
    refine yP_b h2 _ ?_
    exact br_f (by decide) ⟨rfl, R⟩
  refine xP_g hb ?_
  refine br_f (by decide) ?_
  have hva : vp_in (nI a) 20 := vp_in_nI ha (by decide)
  have hvb : vp_in (nI b) 20 := vp_in_nI hb (by decide)
  have ca : (nI a).toNatClampNeg = a := nI_clamp (by omega)
  have cb : (nI b).toNatClampNeg = b := nI_clamp (by omega)
  by_cases e : a = b
  · refine br_t (congrArg nI e) ?_
    unfold wpY_link
    refine yP_g ha _ ?_
    refine br_t rfl ?_
    refine yP_g hb _ ?_
    exact br_t rfl (br_t (congrArg nI e) ⟨rfl, R⟩)
  have en : ¬ nI a = nI b := nb_ne (by omega) (by omega) e
  refine br_f en (And.intro hva ?_)
  rw [ca, cb]
  by_cases l1 : 0 ≤ a_links a
  · refine br_t l1 ?_
    unfold wpY_link
    refine yP_g ha _ ?_
    refine br_t rfl ?_
    refine yP_g hb _ ?_
    refine br_t rfl (br_f en (And.intro hva ?_))
    rw [ca, cb]
    exact br_t l1 ⟨rfl, R⟩
  refine br_f l1 (And.intro hvb ?_)
  by_cases l2 : a_links b < 0
  · refine br_t l2 (And.intro hva (nm_e (And.intro hvb (nm_e ?_))))
    unfold wpY_link
    refine yP_g ha _ ?_
    refine br_t rfl ?_
    refine yP_g hb _ ?_
    refine br_t rfl (br_f en (And.intro hva ?_))
    rw [ca, cb]
    refine br_f l1 (And.intro hvb (br_t l2 (And.intro hva (nm_e (And.intro hvb (nm_e ⟨rfl, ?_⟩))))))
    exact RL _ (lk_u (lk_u hl a (Or.inr ⟨b, hb, rfl⟩)) b (Or.inr ⟨a, ha, rfl⟩))
  · refine br_f l2 ?_
    unfold wpY_link
    refine yP_g ha _ ?_
    refine br_t rfl ?_
    refine yP_g hb _ ?_
    refine br_t rfl (br_f en (And.intro hva ?_))
    rw [ca, cb]
    exact br_f l1 (And.intro hvb (br_f l2 ⟨rfl, R⟩))
theorem i_vc_unlink {k : Nat} {u : SX} {v : SY} (I : i_Rel k u v) (hk : k + 5 ≤ 2560) (v1 : Int32) : wpX_unlink (fun r u' => wpY_unlink (fun r' v' => r' = r ∧ i_Rel (k + 5) u' v') v v1) u v1 := by
  have R := i_up I
  obtain ⟨el, hl⟩ := rl_lk I
  have RL := fun l h => rl_l (k := k + 5) (u := u) (v := v) l h R
  clear I
  obtain ⟨f_active, f_outPlace, f_outHeader, f_freeNode, f_freeCount, f_keptDiagram, f_depth, f_got, f_stamp, a_links, a_ruleCount, a_matches, a_actions, a_changes, a_states, a_places, a_headers, a_tables, a_treated, a_nodes, a_following, a_marked, a_bucket, a_now, a_next, a_layer, a_workLevel, a_workOne, a_workTwo, a_workPhase, a_workLow, a_memoStamp, a_memoOne, a_memoTwo, a_memoLevel, a_memoGot⟩ := u
  obtain ⟨g_active, g_outPlace, g_outHeader, g_seen, b_links, b_sizes, b_matches, b_actions, b_changes, b_states, b_places, b_headers, b_tables, b_treated⟩ := v
  have el' : a_links = b_links := el
  subst el'
  unfold wpX_unlink
  rcases bd_or 20 (by decide) v1 with h1 | ⟨a, ha, rfl⟩
  · refine xP_b h1 ?_
    refine br_t rfl ?_
    unfold wpY_unlink
    refine yP_b h1 _ ?_
    exact br_f (by decide) ⟨rfl, R⟩
  refine xP_g ha ?_
  have hva : vp_in (nI a) 20 := vp_in_nI ha (by decide)
  have ca : (nI a).toNatClampNeg = a := nI_clamp (by omega)
  refine br_f (by decide) (And.intro hva ?_)
  rw [ca]
  rcases hl a ha with l | ⟨q, hq, l⟩
  · have l' : a_links a = -1 := l
    refine nm_r l' (br_f (by decide) ?_)
    unfold wpY_unlink
    refine yP_g ha _ ?_
    refine br_t rfl (And.intro hva ?_)
    rw [ca]
    exact nm_r l' (br_f (by decide) ⟨rfl, R⟩)
  · have l' : a_links a = nI q := l
    have hvq : vp_in (nI q) 20 := vp_in_nI hq (by decide)
    have cq : (nI q).toNatClampNeg = q := nI_clamp (by omega)
    refine nm_r l' (br_t (nI_pos' (by omega)) (And.intro hva (nm_e (And.intro hvq ?_))))
    rw [cq]
    refine nm_e ?_
    unfold wpY_unlink
    refine yP_g ha _ ?_
    refine br_t rfl (And.intro hva ?_)
    rw [ca]
    refine nm_r l' (br_t (nI_pos' (by omega)) (And.intro hva (nm_e (And.intro hvq ?_))))
    rw [cq]
    exact nm_e ⟨rfl, RL _ (lk_u (lk_u hl a (Or.inl rfl)) q (Or.inl rfl))⟩
theorem i_vc_linked {k : Nat} {u : SX} {v : SY} (I : i_Rel k u v) (hk : k + 5 ≤ 2560) (v1 : Int32) : wpX_linked (fun r => wpY_linked (fun r' => r' = r ∧ i_Rel (k + 5) u v) v v1) u v1 := by
  have R := i_up I
  obtain ⟨el, hl⟩ := rl_lk I
  clear I
  generalize i_Rel (k + 5) u v = P at R ⊢
  obtain ⟨f_active, f_outPlace, f_outHeader, f_freeNode, f_freeCount, f_keptDiagram, f_depth, f_got, f_stamp, a_links, a_ruleCount, a_matches, a_actions, a_changes, a_states, a_places, a_headers, a_tables, a_treated, a_nodes, a_following, a_marked, a_bucket, a_now, a_next, a_layer, a_workLevel, a_workOne, a_workTwo, a_workPhase, a_workLow, a_memoStamp, a_memoOne, a_memoTwo, a_memoLevel, a_memoGot⟩ := u
  obtain ⟨g_active, g_outPlace, g_outHeader, g_seen, b_links, b_sizes, b_matches, b_actions, b_changes, b_states, b_places, b_headers, b_tables, b_treated⟩ := v
  have el' : a_links = b_links := el
  subst el'
  unfold wpX_linked
  rcases bd_or 20 (by decide) v1 with h1 | ⟨a, ha, rfl⟩
  · refine xP_b h1 ?_
    refine br_t rfl ?_
    unfold wpY_linked
    refine yP_b h1 _ ?_
    exact br_f (by decide) ⟨rfl, R⟩
  refine xP_g ha ?_
  have hva : vp_in (nI a) 20 := vp_in_nI ha (by decide)
  refine br_f (by decide) (And.intro hva ?_)
  refine br_c (fun z => And.intro hva ?_) (fun z => ?_)
  · unfold wpY_linked
    refine yP_g ha _ ?_
    exact br_t rfl (And.intro hva (br_t z (And.intro hva ⟨rfl, R⟩)))
  · unfold wpY_linked
    refine yP_g ha _ ?_
    exact br_t rfl (And.intro hva (br_f z ⟨rfl, R⟩))
theorem i_vc_state {k : Nat} {u : SX} {v : SY} (I : i_Rel k u v) (hk : k + 5 ≤ 2560) (v1 : Int32) : wpX_state (fun r => wpY_state (fun r' => r' = r ∧ i_Rel (k + 5) u v) v v1) u v1 := by
  have R := i_up I
  obtain ⟨e1, e2, e3⟩ := rl_st I
  clear I
  generalize i_Rel (k + 5) u v = P at R ⊢
  obtain ⟨f_active, f_outPlace, f_outHeader, f_freeNode, f_freeCount, f_keptDiagram, f_depth, f_got, f_stamp, a_links, a_ruleCount, a_matches, a_actions, a_changes, a_states, a_places, a_headers, a_tables, a_treated, a_nodes, a_following, a_marked, a_bucket, a_now, a_next, a_layer, a_workLevel, a_workOne, a_workTwo, a_workPhase, a_workLow, a_memoStamp, a_memoOne, a_memoTwo, a_memoLevel, a_memoGot⟩ := u
  obtain ⟨g_active, g_outPlace, g_outHeader, g_seen, b_links, b_sizes, b_matches, b_actions, b_changes, b_states, b_places, b_headers, b_tables, b_treated⟩ := v
  have e1' : a_states = b_states := e1
  have e2' : a_places = b_places := e2
  have e3' : a_headers = b_headers := e3
  subst e1' e2' e3'
  unfold wpX_state
  rcases bd_or 8 (by decide) v1 with h1 | ⟨a, ha, rfl⟩
  · refine xK_b h1 ?_
    refine br_t rfl ?_
    exact c4_b 7 (by decide) h1 ⟨rfl, R⟩
  refine xK_g ha ?_
  have hva : vp_in (nI a) 8 := vp_in_nI ha (by decide)
  refine br_f (by decide) (And.intro hva ?_)
  exact c4_g 7 (by decide) ha (And.intro hva ⟨rfl, R⟩)
theorem i_vc_where {k : Nat} {u : SX} {v : SY} (I : i_Rel k u v) (hk : k + 5 ≤ 2560) (v1 : Int32) : wpX_where (fun r => wpY_where (fun r' => r' = r ∧ i_Rel (k + 5) u v) v v1) u v1 := by
  have R := i_up I
  obtain ⟨e1, e2, e3⟩ := rl_st I
  clear I
  generalize i_Rel (k + 5) u v = P at R ⊢
  obtain ⟨f_active, f_outPlace, f_outHeader, f_freeNode, f_freeCount, f_keptDiagram, f_depth, f_got, f_stamp, a_links, a_ruleCount, a_matches, a_actions, a_changes, a_states, a_places, a_headers, a_tables, a_treated, a_nodes, a_following, a_marked, a_bucket, a_now, a_next, a_layer, a_workLevel, a_workOne, a_workTwo, a_workPhase, a_workLow, a_memoStamp, a_memoOne, a_memoTwo, a_memoLevel, a_memoGot⟩ := u
  obtain ⟨g_active, g_outPlace, g_outHeader, g_seen, b_links, b_sizes, b_matches, b_actions, b_changes, b_states, b_places, b_headers, b_tables, b_treated⟩ := v
  have e1' : a_states = b_states := e1
  have e2' : a_places = b_places := e2
  have e3' : a_headers = b_headers := e3
  subst e1' e2' e3'
  unfold wpX_where
  rcases bd_or 8 (by decide) v1 with h1 | ⟨a, ha, rfl⟩
  · refine xK_b h1 ?_
    refine br_t rfl ?_
    exact c4_b 7 (by decide) h1 ⟨rfl, R⟩
  refine xK_g ha ?_
  have hva : vp_in (nI a) 8 := vp_in_nI ha (by decide)
  refine br_f (by decide) (And.intro hva ?_)
  refine br_c (fun z => ?_) (fun z => And.intro hva ?_)
  · exact c4_g 7 (by decide) ha (And.intro hva (br_t z ⟨rfl, R⟩))
  · exact c4_g 7 (by decide) ha (And.intro hva (br_f z (And.intro hva ⟨rfl, R⟩)))
theorem i_vc_header {k : Nat} {u : SX} {v : SY} (I : i_Rel k u v) (hk : k + 5 ≤ 2560) (v1 : Int32) : wpX_header (fun r => wpY_header (fun r' => r' = r ∧ i_Rel (k + 5) u v) v v1) u v1 := by
  have R := i_up I
  obtain ⟨e1, e2, e3⟩ := rl_st I
  clear I
  generalize i_Rel (k + 5) u v = P at R ⊢
  obtain ⟨f_active, f_outPlace, f_outHeader, f_freeNode, f_freeCount, f_keptDiagram, f_depth, f_got, f_stamp, a_links, a_ruleCount, a_matches, a_actions, a_changes, a_states, a_places, a_headers, a_tables, a_treated, a_nodes, a_following, a_marked, a_bucket, a_now, a_next, a_layer, a_workLevel, a_workOne, a_workTwo, a_workPhase, a_workLow, a_memoStamp, a_memoOne, a_memoTwo, a_memoLevel, a_memoGot⟩ := u
  obtain ⟨g_active, g_outPlace, g_outHeader, g_seen, b_links, b_sizes, b_matches, b_actions, b_changes, b_states, b_places, b_headers, b_tables, b_treated⟩ := v
  have e1' : a_states = b_states := e1
  have e2' : a_places = b_places := e2
  have e3' : a_headers = b_headers := e3
  subst e1' e2' e3'
  unfold wpX_header
  rcases bd_or 8 (by decide) v1 with h1 | ⟨a, ha, rfl⟩
  · refine xK_b h1 ?_
    refine br_t rfl ?_
    exact c4_b 7 (by decide) h1 ⟨rfl, R⟩
  refine xK_g ha ?_
  have hva : vp_in (nI a) 8 := vp_in_nI ha (by decide)
  refine br_f (by decide) (And.intro hva ?_)
  refine br_c (fun z => ?_) (fun z => And.intro hva ?_)
  · exact c4_g 7 (by decide) ha (And.intro hva (br_t z ⟨rfl, R⟩))
  · exact c4_g 7 (by decide) ha (And.intro hva (br_f z (And.intro hva ⟨rfl, R⟩)))
end
section
/-! the staged table: rules, add, drop, move -/
def un_f {α : Type} (f : Nat → α) (k : Nat) (x : α) : Nat → α := fun j => if j = k then x else f j
def sh_d {α : Type} (f : Nat → α) (lo hi : Nat) : Nat → α := fun q => if lo ≤ q ∧ q < hi then f (q + 1) else f q
def sh_u {α : Type} (f : Nat → α) (lo hi : Nat) : Nat → α := fun q => if lo < q ∧ q ≤ hi then f (q - 1) else f q
def mv_f {α : Type} (f : Nat → α) (a b : Nat) : Nat → α := fun q => if q = b then f a else if a ≤ b then (if a ≤ q ∧ q < b then f (q + 1) else f q) else (if b < q ∧ q ≤ a then f (q - 1) else f q)
theorem sh_d0 {α : Type} (f : Nat → α) (lo : Nat) : sh_d f lo lo = f := by
  funext q
  unfold sh_d
  rw [if_neg (by omega)]
theorem sh_u0 {α : Type} (f : Nat → α) (lo : Nat) : sh_u f lo lo = f := by
  funext q
  unfold sh_u
  rw [if_neg (by omega)]
theorem sh_ds (f : Nat → Int32) {lo q : Nat} (h : lo ≤ q) : upd (sh_d f lo q) q (sh_d f lo q (q + 1)) = sh_d f lo (q + 1) := by
  funext p
  unfold upd sh_d
  by_cases e : p = q
  · rw [if_pos e, if_neg (by omega), e, if_pos (by omega)]
  · rw [if_neg e]
    by_cases z : lo ≤ p ∧ p < q
    · rw [if_pos z, if_pos (by omega)]
    · rw [if_neg z, if_neg (by omega)]
theorem sh_us (f : Nat → Int32) {q hi : Nat} (h : q + 1 ≤ hi) : upd (sh_u f (q + 1) hi) (q + 1) (sh_u f (q + 1) hi q) = sh_u f q hi := by
  funext p
  unfold upd sh_u
  by_cases e : p = q + 1
  · rw [if_pos e, if_neg (by omega), e, if_pos (by omega), Nat.add_sub_cancel]
  · rw [if_neg e]
    by_cases z : q + 1 < p ∧ p ≤ hi
    · rw [if_pos z, if_pos (by omega)]
    · rw [if_neg z, if_neg (by omega)]
theorem mv_d (f : Nat → Int32) {a b : Nat} (h : a ≤ b) : upd (sh_d f a b) b (f a) = mv_f f a b := by
  funext q
  unfold upd sh_d mv_f
  by_cases e : q = b
  · rw [if_pos e, if_pos e]
  · rw [if_neg e, if_neg e, if_pos h]
theorem mv_u (f : Nat → Int32) {a b : Nat} (h : b < a) : upd (sh_u f b a) b (f a) = mv_f f a b := by
  funext q
  unfold upd sh_u mv_f
  by_cases e : q = b
  · rw [if_pos e, if_pos e]
  · rw [if_neg e, if_neg e, if_neg (show ¬ a ≤ b by omega)]
theorem mv_y (f : Nat → Int32) {a b e : Nat} (ha : a ≤ e) (hb : b ≤ e) : upd (sh_u (sh_d f a e) b e) b (f a) = mv_f f a b := by
  funext q
  unfold upd sh_u sh_d mv_f
  by_cases z : q = b
  · rw [if_pos z, if_pos z]
  · rw [if_neg z, if_neg z]
    by_cases z1 : b < q ∧ q ≤ e
    · rw [if_pos z1]
      by_cases z2 : a < q
      · rw [if_pos (by omega), show q - 1 + 1 = q by omega]
        by_cases z3 : a ≤ b
        · rw [if_pos z3, if_neg (by omega)]
        · rw [if_neg z3, if_neg (by omega)]
      · rw [if_neg (by omega), if_neg (by omega), if_pos (by omega)]
    · rw [if_neg z1]
      by_cases z3 : a ≤ b
      · rw [if_pos z3]
        by_cases z4 : a ≤ q ∧ q < b
        · rw [if_pos z4, if_pos (by omega)]
        · rw [if_neg z4, if_neg (by omega)]
      · rw [if_neg z3, if_neg (by omega), if_neg (by omega)]
theorem tb_Hd_cg {c m a h c' m' a' h' : Nat → Int32} {t : Nat} {T : TB} (H : tb_Hd c m a h t T) (h1 : ∀ s, s < 5 → c' (5 * t + s) = c (5 * t + s)) (h2 : ∀ j, j < 30 → m' (30 * t + j) = m (30 * t + j) ∧ a' (30 * t + j) = a (30 * t + j) ∧ h' (30 * t + j) = h (30 * t + j)) : tb_Hd c' m' a' h' t T := by
  refine ⟨fun s hs => (h1 s hs).trans (H.1 s hs), fun j hj => ?_⟩
  have := H.2 j hj
  have w := h2 j hj
  exact ⟨w.1.trans this.1, w.2.1.trans this.2.1, w.2.2.trans this.2.2⟩
/-- the staged table is another one on both sides; all else stays -/
def ri_K (c c' m m' a a' h h' : Nat → Int32) : Prop := (∀ q, 5 ≤ q → c' q = c q) ∧ ∀ q, 30 ≤ q → m' q = m q ∧ a' q = a q ∧ h' q = h q
theorem ri_Hd {c c' m m' a a' h h' : Nat → Int32} (K : ri_K c c' m m' a a' h h') {t : Nat} {T : TB} (ht : 1 ≤ t) (H : tb_Hd c m a h t T) : tb_Hd c' m' a' h' t T := tb_Hd_cg H (fun s _ => K.1 _ (by omega)) (fun j _ => K.2 _ (by omega))
theorem rl_T {k : Nat} {u : SX} {v : SY} (R : i_Rel k u v) : ∃ T0, tb_Ok T0 ∧ tx_Hd u 0 T0 ∧ ty_Hd v 0 T0 ∧ ∀ (T : TB) (c m a h c' m' a' h' : Nat → Int32), tb_Ok T → tb_Hd c m a h 0 T → tb_Hd c' m' a' h' 0 T → ri_K (gx_ruleCount u) c (gx_matches u) m (gx_actions u) a (gx_changes u) h → ri_K (gy_sizes v) c' (gy_matches v) m' (gy_actions v) a' (gy_changes v) h' → i_Rel k (sx_rules u c m a h) (sy_rules v c' m' a' h') := by
  obtain ⟨⟨T0, TT, π, a0, R1, R2, R3, R4, R5⟩, σ, m1, m2⟩ := R
  refine ⟨T0, R1.1, R1.2.2.1, R1.2.2.2, ?_⟩
  intro T c m a h c' m' a' h' hT HX HY KX KY
  have pa := R2.1 a0 R3.1 R3.2.1
  refine ⟨⟨T, TT, π, a0, ⟨hT, R1.2.1, HX, HY⟩, R2, ⟨R3.1, R3.2.1, R3.2.2.1, R3.2.2.2.1, ri_Hd KX R3.1 R3.2.2.2.2.1, ri_Hd KY pa.1 R3.2.2.2.2.2⟩, R4, ?_⟩, σ, m1, m2⟩
  intro i hi hs
  obtain ⟨t, p, h', n, t1, t2, t3, t4, t5, t6, t7, t8, t9, t10, t11, t12, t13⟩ := R5 i hi hs
  exact ⟨t, p, h', n, t1, t2, t3, t4, t5, t6, t7, t8, t9, t10, t11, ri_Hd KX t1 t12, ri_Hd KY (R2.1 t t1 t2).1 t13⟩
/-! isRule, noRule -/
theorem xR_b1 {post : Int32 → Prop} {x y : Int32} (h : bd_o 5 x) : ∀ u : SX, post 0 → wpX_isRule post u x y := by
  rintro ⟨f_active, f_outPlace, f_outHeader, f_freeNode, f_freeCount, f_keptDiagram, f_depth, f_got, f_stamp, a_links, a_ruleCount, a_matches, a_actions, a_changes, a_states, a_places, a_headers, a_tables, a_treated, a_nodes, a_following, a_marked, a_bucket, a_now, a_next, a_layer, a_workLevel, a_workOne, a_workTwo, a_workPhase, a_workLow, a_memoStamp, a_memoOne, a_memoTwo, a_memoLevel, a_memoGot⟩ hp
  unfold wpX_isRule
  refine xS_b h ?_
  exact br_t rfl hp
theorem xR_b2 {post : Int32 → Prop} {s c : Nat} {y : Int32} (hs : s < 5) (hc : c < 2 ^ 31) (h : bd_o c y) : ∀ u : SX, gx_ruleCount u s = nI c → post 0 → wpX_isRule post u (nI s) y := by
  rintro ⟨f_active, f_outPlace, f_outHeader, f_freeNode, f_freeCount, f_keptDiagram, f_depth, f_got, f_stamp, a_links, a_ruleCount, a_matches, a_actions, a_changes, a_states, a_places, a_headers, a_tables, a_treated, a_nodes, a_following, a_marked, a_bucket, a_now, a_next, a_layer, a_workLevel, a_workOne, a_workTwo, a_workPhase, a_workLow, a_memoStamp, a_memoOne, a_memoTwo, a_memoLevel, a_memoGot⟩ e hp
  unfold wpX_isRule
  refine xS_g hs ?_
  have e' : a_ruleCount (nI s).toNatClampNeg = nI c := by rw [nI_clamp (by omega)]; exact e
  have hv : vp_in (nI s) 20 := vp_in_nI (by omega) (by decide)
  refine br_f (by decide) ?_
  rw [e']
  rcases h with h | h
  · exact br_t h hp
  · exact br_f (bd_nn hc h) (And.intro hv (br_t h hp))
theorem xR_g {post : Int32 → Prop} {s c i : Nat} (hs : s < 5) (hc : c < 2 ^ 31) (h : i < c) : ∀ u : SX, gx_ruleCount u s = nI c → post 1 → wpX_isRule post u (nI s) (nI i) := by
  rintro ⟨f_active, f_outPlace, f_outHeader, f_freeNode, f_freeCount, f_keptDiagram, f_depth, f_got, f_stamp, a_links, a_ruleCount, a_matches, a_actions, a_changes, a_states, a_places, a_headers, a_tables, a_treated, a_nodes, a_following, a_marked, a_bucket, a_now, a_next, a_layer, a_workLevel, a_workOne, a_workTwo, a_workPhase, a_workLow, a_memoStamp, a_memoOne, a_memoTwo, a_memoLevel, a_memoGot⟩ e hp
  unfold wpX_isRule
  refine xS_g hs ?_
  have e' : a_ruleCount (nI s).toNatClampNeg = nI c := by rw [nI_clamp (by omega)]; exact e
  have hv : vp_in (nI s) 20 := vp_in_nI (by omega) (by decide)
  refine br_f (by decide) ?_
  rw [e']
  exact br_f (nI_pos (by omega)) (And.intro hv (br_f (nI_ge h hc) hp))
theorem yR_b1 {post : Int32 → Prop} {x y : Int32} (h : bd_o 5 x) : ∀ v : SY, post 1 → wpY_noRule post v x y := by
  rintro ⟨f_active, f_outPlace, f_outHeader, f_seen, a_links, a_sizes, a_matches, a_actions, a_changes, a_states, a_places, a_headers, a_tables, a_treated⟩ hp
  exact c2_b 4 (by decide) h hp
theorem yR_b2 {post : Int32 → Prop} {s c : Nat} {y : Int32} (hs : s < 5) (hc : c < 2 ^ 31) (h : bd_o c y) : ∀ v : SY, gy_sizes v s = nI c → post 1 → wpY_noRule post v (nI s) y := by
  rintro ⟨f_active, f_outPlace, f_outHeader, f_seen, a_links, a_sizes, a_matches, a_actions, a_changes, a_states, a_places, a_headers, a_tables, a_treated⟩ e hp
  have e' : a_sizes (nI s).toNatClampNeg = nI c := by rw [nI_clamp (by omega)]; exact e
  have hv : vp_in (nI s) 20 := vp_in_nI (by omega) (by decide)
  unfold wpY_noRule
  refine c2_g 4 (by decide) hs ?_
  rw [e']
  rcases h with h | h
  · exact br_t h hp
  · exact br_f (bd_nn hc h) (And.intro hv (br_f (Int32.not_lt.mpr h) hp))
theorem yR_g {post : Int32 → Prop} {s c i : Nat} (hs : s < 5) (hc : c < 2 ^ 31) (h : i < c) : ∀ v : SY, gy_sizes v s = nI c → post 0 → wpY_noRule post v (nI s) (nI i) := by
  rintro ⟨f_active, f_outPlace, f_outHeader, f_seen, a_links, a_sizes, a_matches, a_actions, a_changes, a_states, a_places, a_headers, a_tables, a_treated⟩ e hp
  have e' : a_sizes (nI s).toNatClampNeg = nI c := by rw [nI_clamp (by omega)]; exact e
  have hv : vp_in (nI s) 20 := vp_in_nI (by omega) (by decide)
  unfold wpY_noRule
  refine c2_g 4 (by decide) hs ?_
  rw [e']
  exact br_f (nI_pos (by omega)) (And.intro hv (br_t (nI_lt h hc) hp))
/-! copyRule, put -/
theorem xp_copy {post : SX → Prop} {f t : Nat} {x y : Int32} (hf : f < 120) (ht : t < 120) (ex : x = nI f) (ey : y = nI t) : ∀ u : SX, post (sx_rules u (gx_ruleCount u) (upd (gx_matches u) t (gx_matches u f)) (upd (gx_actions u) t (gx_actions u f)) (upd (gx_changes u) t (gx_changes u f))) → wpX_copyRule post u x y := by
  rintro ⟨f_active, f_outPlace, f_outHeader, f_freeNode, f_freeCount, f_keptDiagram, f_depth, f_got, f_stamp, a_links, a_ruleCount, a_matches, a_actions, a_changes, a_states, a_places, a_headers, a_tables, a_treated, a_nodes, a_following, a_marked, a_bucket, a_now, a_next, a_layer, a_workLevel, a_workOne, a_workTwo, a_workPhase, a_workLow, a_memoStamp, a_memoOne, a_memoTwo, a_memoLevel, a_memoGot⟩ hp
  subst ex ey
  have vf : vp_in (nI f) 120 := vp_in_nI hf (by decide)
  have vt : vp_in (nI t) 120 := vp_in_nI ht (by decide)
  unfold wpX_copyRule
  dsimp only
  rw [nI_clamp (show f < 2 ^ 31 by omega), nI_clamp (show t < 2 ^ 31 by omega)]
  exact And.intro vf (And.intro vt (nm_e (And.intro vf (And.intro vt (nm_e (And.intro vf (And.intro vt (nm_e hp))))))))
theorem yp_put {post : SY → Prop} {i : Nat} {x p1 p2 p3 : Int32} (hi : i < 120) (ex : x = nI i) : ∀ v : SY, post (sy_rules v (gy_sizes v) (upd (gy_matches v) i p1) (upd (gy_actions v) i p2) (upd (gy_changes v) i p3)) → wpY_put post v x p1 p2 p3 := by
  rintro ⟨f_active, f_outPlace, f_outHeader, f_seen, a_links, a_sizes, a_matches, a_actions, a_changes, a_states, a_places, a_headers, a_tables, a_treated⟩ hp
  subst ex
  have hv : vp_in (nI i) 120 := vp_in_nI hi (by decide)
  unfold wpY_put
  dsimp only
  rw [nI_clamp (show i < 2 ^ 31 by omega)]
  exact And.intro hv (nm_e (And.intro hv (nm_e (And.intro hv (nm_e hp)))))
theorem i_vc_rules {k : Nat} {u : SX} {v : SY} (I : i_Rel k u v) (hk : k + 5 ≤ 2560) (v1 : Int32) : wpX_rules (fun r => wpY_rules (fun r' => r' = r ∧ i_Rel (k + 5) u v) v v1) u v1 := by
  have R := i_up I
  obtain ⟨T0, hT, HX, HY, _⟩ := rl_T I
  clear I
  generalize i_Rel (k + 5) u v = P at R ⊢
  have ec : ∀ s, s < 5 → gx_ruleCount u s = gy_sizes v s := fun s hs => by
    have h1 := HX.1 s hs
    have h2 := HY.1 s hs
    rw [show 5 * 0 + s = s by omega] at h1 h2
    rw [h1, h2]
  obtain ⟨f_active, f_outPlace, f_outHeader, f_freeNode, f_freeCount, f_keptDiagram, f_depth, f_got, f_stamp, a_links, a_ruleCount, a_matches, a_actions, a_changes, a_states, a_places, a_headers, a_tables, a_treated, a_nodes, a_following, a_marked, a_bucket, a_now, a_next, a_layer, a_workLevel, a_workOne, a_workTwo, a_workPhase, a_workLow, a_memoStamp, a_memoOne, a_memoTwo, a_memoLevel, a_memoGot⟩ := u
  obtain ⟨g_active, g_outPlace, g_outHeader, g_seen, b_links, b_sizes, b_matches, b_actions, b_changes, b_states, b_places, b_headers, b_tables, b_treated⟩ := v
  unfold wpX_rules
  rcases bd_or 5 (by decide) v1 with h1 | ⟨s, hs, rfl⟩
  · refine xS_b h1 ?_
    refine br_t rfl ?_
    exact c4_b 4 (by decide) h1 ⟨rfl, R⟩
  refine xS_g hs ?_
  have hv : vp_in (nI s) 20 := vp_in_nI (by omega) (by decide)
  refine br_f (by decide) (And.intro hv ?_)
  refine c4_g 4 (by decide) hs (And.intro hv ⟨?_, R⟩)
  rw [nI_clamp (by omega)]
  exact (ec s hs).symm
end
section
/-! add, drop, move -/
theorem pk_uu {f : Nat → Int32} {k j : Nat} {x : Int32} : upd f k x j = if j = k then x else f j := rfl
/-- the staged table by its arrays -/
theorem tb_0 {c m a h : Nat → Int32} {T : TB} (H : tb_Hd c m a h 0 T) : (∀ s, s < 5 → c s = nI (tb_c T s)) ∧ ∀ j, j < 30 → m j = nI (tb_m T j) ∧ a j = nI (tb_a T j) ∧ h j = nI (tb_h T j) := by
  refine ⟨fun s hs => ?_, fun j hj => ?_⟩
  · have := H.1 s hs
    rw [show 5 * 0 + s = s by omega] at this
    exact this
  · have := H.2 j hj
    rw [show 30 * 0 + j = j by omega] at this
    exact this
theorem tb_0' {c m a h : Nat → Int32} {T : TB} (H : (∀ s, s < 5 → c s = nI (tb_c T s)) ∧ ∀ j, j < 30 → m j = nI (tb_m T j) ∧ a j = nI (tb_a T j) ∧ h j = nI (tb_h T j)) : tb_Hd c m a h 0 T := by
  refine ⟨fun s hs => ?_, fun j hj => ?_⟩
  · rw [show 5 * 0 + s = s by omega]
    exact H.1 s hs
  · rw [show 30 * 0 + j = j by omega]
    exact H.2 j hj
theorem un_u {f : Nat → Int32} {F : Nat → Nat} {k x q : Nat} (h : f q = nI (F q)) : upd f k (nI x) q = nI (un_f F k x q) := by
  unfold upd un_f
  by_cases e : q = k
  · rw [if_pos e, if_pos e]
  · rw [if_neg e, if_neg e]; exact h
theorem un_c {T : TB} (hT : tb_Ok T) {s x : Nat} (hx : x ≤ 6) : ∀ q, q < 5 → un_f (tb_c T) s x q ≤ 6 := by
  intro q hq
  unfold un_f
  by_cases e : q = s
  · rw [if_pos e]; exact hx
  · rw [if_neg e]; exact hT.1 q hq
theorem sh_n {f : Nat → Int32} {F : Nat → Nat} {lo hi : Nat} (hh : hi ≤ 29) (h : ∀ j, j < 30 → f j = nI (F j)) : ∀ j, j < 30 → sh_d f lo hi j = nI (sh_d F lo hi j) := by
  intro j hj
  unfold sh_d
  by_cases e : lo ≤ j ∧ j < hi
  · rw [if_pos e, if_pos e]; exact h _ (by omega)
  · rw [if_neg e, if_neg e]; exact h j hj
theorem sh_lt {F : Nat → Nat} {lo hi : Nat} {P : Nat → Prop} (hh : hi ≤ 29) (h : ∀ j, j < 30 → P (F j)) : ∀ j, j < 30 → P (sh_d F lo hi j) := by
  intro j hj
  unfold sh_d
  by_cases e : lo ≤ j ∧ j < hi
  · rw [if_pos e]; exact h _ (by omega)
  · rw [if_neg e]; exact h j hj
theorem sh_k (f : Nat → Int32) {lo hi : Nat} (hh : hi ≤ 29) : ∀ q, 30 ≤ q → sh_d f lo hi q = f q := by
  intro q hq
  unfold sh_d
  rw [if_neg (by omega)]
theorem mv_n {f : Nat → Int32} {F : Nat → Nat} {a b : Nat} (ha : a < 30) (hb : b < 30) (h : ∀ j, j < 30 → f j = nI (F j)) : ∀ j, j < 30 → mv_f f a b j = nI (mv_f F a b j) := by
  intro j hj
  unfold mv_f
  by_cases e : j = b
  · rw [if_pos e, if_pos e]; exact h a ha
  · rw [if_neg e, if_neg e]
    by_cases e1 : a ≤ b
    · rw [if_pos e1, if_pos e1]
      by_cases e2 : a ≤ j ∧ j < b
      · rw [if_pos e2, if_pos e2]; exact h _ (by omega)
      · rw [if_neg e2, if_neg e2]; exact h j hj
    · rw [if_neg e1, if_neg e1]
      by_cases e2 : b < j ∧ j ≤ a
      · rw [if_pos e2, if_pos e2]; exact h _ (by omega)
      · rw [if_neg e2, if_neg e2]; exact h j hj
theorem mv_lt {F : Nat → Nat} {a b : Nat} {P : Nat → Prop} (ha : a < 30) (hb : b < 30) (h : ∀ j, j < 30 → P (F j)) : ∀ j, j < 30 → P (mv_f F a b j) := by
  intro j hj
  unfold mv_f
  by_cases e : j = b
  · rw [if_pos e]; exact h a ha
  · rw [if_neg e]
    by_cases e1 : a ≤ b
    · rw [if_pos e1]
      by_cases e2 : a ≤ j ∧ j < b
      · rw [if_pos e2]; exact h _ (by omega)
      · rw [if_neg e2]; exact h j hj
    · rw [if_neg e1]
      by_cases e2 : b < j ∧ j ≤ a
      · rw [if_pos e2]; exact h _ (by omega)
      · rw [if_neg e2]; exact h j hj
theorem mv_k (f : Nat → Int32) {a b : Nat} (ha : a < 30) (hb : b < 30) : ∀ q, 30 ≤ q → mv_f f a b q = f q := by
  intro q hq
  unfold mv_f
  rw [if_neg (by omega)]
  by_cases e1 : a ≤ b
  · rw [if_pos e1, if_neg (by omega)]
  · rw [if_neg e1, if_neg (by omega)]
theorem i_vc_add {k : Nat} {u : SX} {v : SY} (I : i_Rel k u v) (hk : k + 5 ≤ 2560) (v1 : Int32) (v2 : Int32) (v3 : Int32) (v4 : Int32) : wpX_add (fun r u' => wpY_add (fun r' v' => r' = r ∧ i_Rel (k + 5) u' v') v v1 v2 v3 v4) u v1 v2 v3 v4 := by
  have R := i_up I
  obtain ⟨T0, hT, HX, HY, RT⟩ := rl_T R
  clear I
  have hx := tb_0 HX
  have hy := tb_0 HY
  clear HX HY
  obtain ⟨f_active, f_outPlace, f_outHeader, f_freeNode, f_freeCount, f_keptDiagram, f_depth, f_got, f_stamp, a_links, a_ruleCount, a_matches, a_actions, a_changes, a_states, a_places, a_headers, a_tables, a_treated, a_nodes, a_following, a_marked, a_bucket, a_now, a_next, a_layer, a_workLevel, a_workOne, a_workTwo, a_workPhase, a_workLow, a_memoStamp, a_memoOne, a_memoTwo, a_memoLevel, a_memoGot⟩ := u
  obtain ⟨g_active, g_outPlace, g_outHeader, g_seen, b_links, b_sizes, b_matches, b_actions, b_changes, b_states, b_places, b_headers, b_tables, b_treated⟩ := v
  unfold wpX_add
  rcases bd_or 5 (by decide) v1 with h1 | ⟨s, hs, rfl⟩
  · refine xS_b h1 ?_
    exact br_t rfl (c2_b 4 (by decide) h1 ⟨rfl, R⟩)
  refine xS_g hs ?_
  refine br_f (by decide) ?_
  rcases bd_or 4096 (by decide) v2 with h2 | ⟨m, hm, rfl⟩
  · exact c1_b 4096 (by decide) h2 (c2_g 4 (by decide) hs (c2_b 4095 (by decide) h2 ⟨rfl, R⟩))
  refine c1_g 4096 (by decide) hm ?_
  rcases bd_or 6 (by decide) v3 with h3 | ⟨a, ha, rfl⟩
  · exact c2_b 5 (by decide) h3 (c2_g 4 (by decide) hs (c2_g 4095 (by decide) hm (c2_b 5 (by decide) h3 ⟨rfl, R⟩)))
  refine c2_g 5 (by decide) ha ?_
  rcases bd_or 4096 (by decide) v4 with h4 | ⟨h, hh, rfl⟩
  · exact c3_b 4096 (by decide) h4 (c2_g 4 (by decide) hs (c2_g 4095 (by decide) hm (c2_g 5 (by decide) ha (c4_b 4095 (by decide) h4 ⟨rfl, R⟩))))
  refine c3_g 4096 (by decide) hh ?_
  have hv : vp_in (nI s) 20 := vp_in_nI (by omega) (by decide)
  have cs : (nI s).toNatClampNeg = s := nI_clamp (by omega)
  have h6 := hT.1 s hs
  have ex : a_ruleCount s = nI (tb_c T0 s) := hx.1 s hs
  have ey : b_sizes s = nI (tb_c T0 s) := hy.1 s hs
  rw [cs, ex]
  refine And.intro hv (pk_lt (tb_c T0 s) 6 (fun z => ?_) (fun z => ?_))
  · have hat : 6 * s + tb_c T0 s < 30 := by omega
    have va : vp_in (nI (6 * s + tb_c T0 s)) 120 := vp_in_nI (by omega) (by decide)
    have ca : (nI (6 * s + tb_c T0 s)).toNatClampNeg = 6 * s + tb_c T0 s := nI_clamp (by omega)
    refine And.intro hv (nm_r (nb_6 s (tb_c T0 s)) (And.intro va ?_))
    rw [ca]
    refine nm_e (And.intro va (nm_e (And.intro va (nm_e (And.intro hv (And.intro hv (nm_r (congrArg (upd a_ruleCount s) (nI_1 (tb_c T0 s))) (And.intro hv ?_))))))))
    rw [pk_us, nI_pred]
    refine c2_g 4 (by decide) hs (c2_g 4095 (by decide) hm (c2_g 5 (by decide) ha (c4_g 4095 (by decide) hh (And.intro hv ?_))))
    rw [cs, ey]
    refine pk_eq (tb_c T0 s) 6 (fun y => absurd y (by omega)) (fun _ => And.intro hv ?_)
    refine yp_put (i := 6 * s + tb_c T0 s) (by omega) (nb_6 s (tb_c T0 s)) _ ?_
    refine And.intro hv (And.intro hv ?_)
    refine nm_r (e' := upd b_sizes s (nI (tb_c T0 s + 1))) ?_ (And.intro hv ⟨?_, ?_⟩)
    · show upd b_sizes s (b_sizes s + 1) = _
      rw [ey, nI_1]
    · rw [pk_us, nI_pred]
    · refine RT (un_f (tb_c T0) s (tb_c T0 s + 1), un_f (tb_m T0) (6 * s + tb_c T0 s) m, un_f (tb_a T0) (6 * s + tb_c T0 s) a, un_f (tb_h T0) (6 * s + tb_c T0 s) h) _ _ _ _ _ _ _ _ ⟨un_c hT (by omega), fun j hj => ?_⟩ (tb_0' ⟨fun q hq => un_u (hx.1 q hq), fun j hj => ⟨un_u (hx.2 j hj).1, un_u (hx.2 j hj).2.1, un_u (hx.2 j hj).2.2⟩⟩) (tb_0' ⟨fun q hq => un_u (hy.1 q hq), fun j hj => ⟨un_u (hy.2 j hj).1, un_u (hy.2 j hj).2.1, un_u (hy.2 j hj).2.2⟩⟩) ⟨fun q hq => pk_un (by omega), fun q hq => ⟨pk_un (by omega), pk_un (by omega), pk_un (by omega)⟩⟩ ⟨fun q hq => pk_un (by omega), fun q hq => ⟨pk_un (by omega), pk_un (by omega), pk_un (by omega)⟩⟩
      have w := hT.2 j hj
      show un_f (tb_m T0) (6 * s + tb_c T0 s) m j < 4096 ∧ un_f (tb_a T0) (6 * s + tb_c T0 s) a j ≤ 5 ∧ un_f (tb_h T0) (6 * s + tb_c T0 s) h j < 4096
      unfold un_f
      by_cases e : j = 6 * s + tb_c T0 s
      · rw [if_pos e, if_pos e, if_pos e]; exact ⟨hm, by omega, hh⟩
      · rw [if_neg e, if_neg e, if_neg e]; exact w
  · refine c2_g 4 (by decide) hs (c2_g 4095 (by decide) hm (c2_g 5 (by decide) ha (c4_g 4095 (by decide) hh (And.intro hv ?_))))
    rw [cs, ey]
    exact pk_eq (tb_c T0 s) 6 (fun _ => ⟨rfl, R⟩) (fun y => absurd (show tb_c T0 s = 6 by omega) y)
end
section
/-! drop and move -/
theorem xo_s {post : Int32 → SX → Prop} {s n q e : Nat} (hs : s < 5) (hq : q < e) (he : e < 6) : ∀ u : SX, gx_ruleCount u s = nI e → (∀ Q : SX → Prop, (∀ u', wX_drop_23 post (nI s) n (nI (q + 1)) (gx_active u') (gx_outPlace u') (gx_outHeader u') (gx_freeNode u') (gx_freeCount u') (gx_keptDiagram u') (gx_depth u') (gx_got u') (gx_stamp u') (gx_links u') (gx_ruleCount u') (gx_matches u') (gx_actions u') (gx_changes u') (gx_states u') (gx_places u') (gx_headers u') (gx_tables u') (gx_treated u') (gx_nodes u') (gx_following u') (gx_marked u') (gx_bucket u') (gx_now u') (gx_next u') (gx_layer u') (gx_workLevel u') (gx_workOne u') (gx_workTwo u') (gx_workPhase u') (gx_workLow u') (gx_memoStamp u') (gx_memoOne u') (gx_memoTwo u') (gx_memoLevel u') (gx_memoGot u') → Q u') → wpX_copyRule Q u (nI (6 * s + q + 1)) (nI (6 * s + q))) → wX_drop_23 post (nI s) (n + 1) (nI q) (gx_active u) (gx_outPlace u) (gx_outHeader u) (gx_freeNode u) (gx_freeCount u) (gx_keptDiagram u) (gx_depth u) (gx_got u) (gx_stamp u) (gx_links u) (gx_ruleCount u) (gx_matches u) (gx_actions u) (gx_changes u) (gx_states u) (gx_places u) (gx_headers u) (gx_tables u) (gx_treated u) (gx_nodes u) (gx_following u) (gx_marked u) (gx_bucket u) (gx_now u) (gx_next u) (gx_layer u) (gx_workLevel u) (gx_workOne u) (gx_workTwo u) (gx_workPhase u) (gx_workLow u) (gx_memoStamp u) (gx_memoOne u) (gx_memoTwo u) (gx_memoLevel u) (gx_memoGot u) := by
  rintro ⟨f_active, f_outPlace, f_outHeader, f_freeNode, f_freeCount, f_keptDiagram, f_depth, f_got, f_stamp, a_links, a_ruleCount, a_matches, a_actions, a_changes, a_states, a_places, a_headers, a_tables, a_treated, a_nodes, a_following, a_marked, a_bucket, a_now, a_next, a_layer, a_workLevel, a_workOne, a_workTwo, a_workPhase, a_workLow, a_memoStamp, a_memoOne, a_memoTwo, a_memoLevel, a_memoGot⟩ ec H
  have hv : vp_in (nI s) 20 := vp_in_nI (by omega) (by decide)
  have ec' : a_ruleCount (nI s).toNatClampNeg = nI e := by rw [nI_clamp (by omega)]; exact ec
  have key : wX_drop_23 post (nI s) (n + 1) (nI q) f_active f_outPlace f_outHeader f_freeNode f_freeCount f_keptDiagram f_depth f_got f_stamp a_links a_ruleCount a_matches a_actions a_changes a_states a_places a_headers a_tables a_treated a_nodes a_following a_marked a_bucket a_now a_next a_layer a_workLevel a_workOne a_workTwo a_workPhase a_workLow a_memoStamp a_memoOne a_memoTwo a_memoLevel a_memoGot := by
    refine And.intro hv (pk_le e q (fun z => absurd z (by omega)) (fun _ => ?_) ec' rfl)
    rw [nb_6, nI_1 (6 * s + q)]
    refine H _ ?_
    rintro ⟨f_active2, f_outPlace2, f_outHeader2, f_freeNode2, f_freeCount2, f_keptDiagram2, f_depth2, f_got2, f_stamp2, a_links2, a_ruleCount2, a_matches2, a_actions2, a_changes2, a_states2, a_places2, a_headers2, a_tables2, a_treated2, a_nodes2, a_following2, a_marked2, a_bucket2, a_now2, a_next2, a_layer2, a_workLevel2, a_workOne2, a_workTwo2, a_workPhase2, a_workLow2, a_memoStamp2, a_memoOne2, a_memoTwo2, a_memoLevel2, a_memoGot2⟩ h
    exact nm_r (nI_1 q) h
  exact key
theorem xo_e {post : Int32 → SX → Prop} {s n e : Nat} (hs : s < 5) (he : e < 6) : ∀ u : SX, gx_ruleCount u s = nI e → post (nI e) u → wX_drop_23 post (nI s) (n + 1) (nI e) (gx_active u) (gx_outPlace u) (gx_outHeader u) (gx_freeNode u) (gx_freeCount u) (gx_keptDiagram u) (gx_depth u) (gx_got u) (gx_stamp u) (gx_links u) (gx_ruleCount u) (gx_matches u) (gx_actions u) (gx_changes u) (gx_states u) (gx_places u) (gx_headers u) (gx_tables u) (gx_treated u) (gx_nodes u) (gx_following u) (gx_marked u) (gx_bucket u) (gx_now u) (gx_next u) (gx_layer u) (gx_workLevel u) (gx_workOne u) (gx_workTwo u) (gx_workPhase u) (gx_workLow u) (gx_memoStamp u) (gx_memoOne u) (gx_memoTwo u) (gx_memoLevel u) (gx_memoGot u) := by
  rintro ⟨f_active, f_outPlace, f_outHeader, f_freeNode, f_freeCount, f_keptDiagram, f_depth, f_got, f_stamp, a_links, a_ruleCount, a_matches, a_actions, a_changes, a_states, a_places, a_headers, a_tables, a_treated, a_nodes, a_following, a_marked, a_bucket, a_now, a_next, a_layer, a_workLevel, a_workOne, a_workTwo, a_workPhase, a_workLow, a_memoStamp, a_memoOne, a_memoTwo, a_memoLevel, a_memoGot⟩ ec hp
  have hv : vp_in (nI s) 20 := vp_in_nI (by omega) (by decide)
  have ec' : a_ruleCount (nI s).toNatClampNeg = nI e := by rw [nI_clamp (by omega)]; exact ec
  have key : wX_drop_23 post (nI s) (n + 1) (nI e) f_active f_outPlace f_outHeader f_freeNode f_freeCount f_keptDiagram f_depth f_got f_stamp a_links a_ruleCount a_matches a_actions a_changes a_states a_places a_headers a_tables a_treated a_nodes a_following a_marked a_bucket a_now a_next a_layer a_workLevel a_workOne a_workTwo a_workPhase a_workLow a_memoStamp a_memoOne a_memoTwo a_memoLevel a_memoGot := by
    refine And.intro hv (pk_le e e (fun z => And.intro hv ?_) (fun z => absurd z (by omega)) ec' rfl)
    rw [ec']
    exact hp
  exact key
theorem xo_l {post : Int32 → SX → Prop} {s e lo : Nat} (hs : s < 5) (he : e < 6) (u : SX) (c m a h : Nat → Int32) (hc : c s = nI e) (hp : post (nI e) (sx_rules u c (sh_d m lo (6 * s + e)) (sh_d a lo (6 * s + e)) (sh_d h lo (6 * s + e)))) : ∀ d q, q + d = e → lo ≤ 6 * s + q → wX_drop_23 post (nI s) (d + 1) (nI q) (gx_active (sx_rules u c (sh_d m lo (6 * s + q)) (sh_d a lo (6 * s + q)) (sh_d h lo (6 * s + q)))) (gx_outPlace (sx_rules u c (sh_d m lo (6 * s + q)) (sh_d a lo (6 * s + q)) (sh_d h lo (6 * s + q)))) (gx_outHeader (sx_rules u c (sh_d m lo (6 * s + q)) (sh_d a lo (6 * s + q)) (sh_d h lo (6 * s + q)))) (gx_freeNode (sx_rules u c (sh_d m lo (6 * s + q)) (sh_d a lo (6 * s + q)) (sh_d h lo (6 * s + q)))) (gx_freeCount (sx_rules u c (sh_d m lo (6 * s + q)) (sh_d a lo (6 * s + q)) (sh_d h lo (6 * s + q)))) (gx_keptDiagram (sx_rules u c (sh_d m lo (6 * s + q)) (sh_d a lo (6 * s + q)) (sh_d h lo (6 * s + q)))) (gx_depth (sx_rules u c (sh_d m lo (6 * s + q)) (sh_d a lo (6 * s + q)) (sh_d h lo (6 * s + q)))) (gx_got (sx_rules u c (sh_d m lo (6 * s + q)) (sh_d a lo (6 * s + q)) (sh_d h lo (6 * s + q)))) (gx_stamp (sx_rules u c (sh_d m lo (6 * s + q)) (sh_d a lo (6 * s + q)) (sh_d h lo (6 * s + q)))) (gx_links (sx_rules u c (sh_d m lo (6 * s + q)) (sh_d a lo (6 * s + q)) (sh_d h lo (6 * s + q)))) (gx_ruleCount (sx_rules u c (sh_d m lo (6 * s + q)) (sh_d a lo (6 * s + q)) (sh_d h lo (6 * s + q)))) (gx_matches (sx_rules u c (sh_d m lo (6 * s + q)) (sh_d a lo (6 * s + q)) (sh_d h lo (6 * s + q)))) (gx_actions (sx_rules u c (sh_d m lo (6 * s + q)) (sh_d a lo (6 * s + q)) (sh_d h lo (6 * s + q)))) (gx_changes (sx_rules u c (sh_d m lo (6 * s + q)) (sh_d a lo (6 * s + q)) (sh_d h lo (6 * s + q)))) (gx_states (sx_rules u c (sh_d m lo (6 * s + q)) (sh_d a lo (6 * s + q)) (sh_d h lo (6 * s + q)))) (gx_places (sx_rules u c (sh_d m lo (6 * s + q)) (sh_d a lo (6 * s + q)) (sh_d h lo (6 * s + q)))) (gx_headers (sx_rules u c (sh_d m lo (6 * s + q)) (sh_d a lo (6 * s + q)) (sh_d h lo (6 * s + q)))) (gx_tables (sx_rules u c (sh_d m lo (6 * s + q)) (sh_d a lo (6 * s + q)) (sh_d h lo (6 * s + q)))) (gx_treated (sx_rules u c (sh_d m lo (6 * s + q)) (sh_d a lo (6 * s + q)) (sh_d h lo (6 * s + q)))) (gx_nodes (sx_rules u c (sh_d m lo (6 * s + q)) (sh_d a lo (6 * s + q)) (sh_d h lo (6 * s + q)))) (gx_following (sx_rules u c (sh_d m lo (6 * s + q)) (sh_d a lo (6 * s + q)) (sh_d h lo (6 * s + q)))) (gx_marked (sx_rules u c (sh_d m lo (6 * s + q)) (sh_d a lo (6 * s + q)) (sh_d h lo (6 * s + q)))) (gx_bucket (sx_rules u c (sh_d m lo (6 * s + q)) (sh_d a lo (6 * s + q)) (sh_d h lo (6 * s + q)))) (gx_now (sx_rules u c (sh_d m lo (6 * s + q)) (sh_d a lo (6 * s + q)) (sh_d h lo (6 * s + q)))) (gx_next (sx_rules u c (sh_d m lo (6 * s + q)) (sh_d a lo (6 * s + q)) (sh_d h lo (6 * s + q)))) (gx_layer (sx_rules u c (sh_d m lo (6 * s + q)) (sh_d a lo (6 * s + q)) (sh_d h lo (6 * s + q)))) (gx_workLevel (sx_rules u c (sh_d m lo (6 * s + q)) (sh_d a lo (6 * s + q)) (sh_d h lo (6 * s + q)))) (gx_workOne (sx_rules u c (sh_d m lo (6 * s + q)) (sh_d a lo (6 * s + q)) (sh_d h lo (6 * s + q)))) (gx_workTwo (sx_rules u c (sh_d m lo (6 * s + q)) (sh_d a lo (6 * s + q)) (sh_d h lo (6 * s + q)))) (gx_workPhase (sx_rules u c (sh_d m lo (6 * s + q)) (sh_d a lo (6 * s + q)) (sh_d h lo (6 * s + q)))) (gx_workLow (sx_rules u c (sh_d m lo (6 * s + q)) (sh_d a lo (6 * s + q)) (sh_d h lo (6 * s + q)))) (gx_memoStamp (sx_rules u c (sh_d m lo (6 * s + q)) (sh_d a lo (6 * s + q)) (sh_d h lo (6 * s + q)))) (gx_memoOne (sx_rules u c (sh_d m lo (6 * s + q)) (sh_d a lo (6 * s + q)) (sh_d h lo (6 * s + q)))) (gx_memoTwo (sx_rules u c (sh_d m lo (6 * s + q)) (sh_d a lo (6 * s + q)) (sh_d h lo (6 * s + q)))) (gx_memoLevel (sx_rules u c (sh_d m lo (6 * s + q)) (sh_d a lo (6 * s + q)) (sh_d h lo (6 * s + q)))) (gx_memoGot (sx_rules u c (sh_d m lo (6 * s + q)) (sh_d a lo (6 * s + q)) (sh_d h lo (6 * s + q)))) := by
  intro d
  induction d with
  | zero =>
    intro q hq hlo
    have eq : q = e := by omega
    subst eq
    exact xo_e hs he _ hc hp
  | succ d ih =>
    intro q hq hlo
    refine xo_s hs (e := e) (by omega) he _ hc (fun Q hQ => ?_)
    refine xp_copy (by omega) (by omega) rfl rfl _ (hQ _ ?_)
    have := ih (q + 1) (by omega) (by omega)
    rw [← Nat.add_assoc, ← sh_ds m hlo, ← sh_ds a hlo, ← sh_ds h hlo] at this
    exact this
theorem xo_drop {post : Int32 → SX → Prop} {s i c : Nat} (hs : s < 5) (hi : i < c) (hc : c ≤ 6) (u : SX) (ec : gx_ruleCount u s = nI c) (hp : post (nI (c - 1)) (sx_rules u (upd (gx_ruleCount u) s (nI (c - 1))) (sh_d (gx_matches u) (6 * s + i) (6 * s + (c - 1))) (sh_d (gx_actions u) (6 * s + i) (6 * s + (c - 1))) (sh_d (gx_changes u) (6 * s + i) (6 * s + (c - 1))))) : wpX_drop post u (nI s) (nI i) := by
  have key := xo_l (post := post) (lo := 6 * s + i) hs (e := c - 1) (by omega) u (upd (gx_ruleCount u) s (nI (c - 1))) (gx_matches u) (gx_actions u) (gx_changes u) pk_us hp (c - 1 - i) i (by omega) (Nat.le_refl _)
  rw [sh_d0, sh_d0, sh_d0] at key
  clear hp
  have hv : vp_in (nI s) 20 := vp_in_nI (by omega) (by decide)
  have kr : ∀ Q : Int32 → Prop, Q 1 → wpX_isRule Q u (nI s) (nI i) := fun Q hQ => xR_g hs (by omega) hi u ec hQ
  obtain ⟨f_active, f_outPlace, f_outHeader, f_freeNode, f_freeCount, f_keptDiagram, f_depth, f_got, f_stamp, a_links, a_ruleCount, a_matches, a_actions, a_changes, a_states, a_places, a_headers, a_tables, a_treated, a_nodes, a_following, a_marked, a_bucket, a_now, a_next, a_layer, a_workLevel, a_workOne, a_workTwo, a_workPhase, a_workLow, a_memoStamp, a_memoOne, a_memoTwo, a_memoLevel, a_memoGot⟩ := u
  have ec' : a_ruleCount s = nI c := ec
  have e1 : a_ruleCount s - 1 = nI (c - 1) := by
    rw [ec', show c = c - 1 + 1 by omega, nI_pred]
    exact congrArg nI (by omega)
  unfold wpX_drop
  refine kr _ ?_
  refine br_f (by decide) (And.intro hv (And.intro hv ?_))
  rw [nI_clamp (by omega)]
  refine nm_r (congrArg (upd a_ruleCount s) e1) ?_
  exact Exists.intro _ key
theorem yo_s {post : Int32 → SY → Prop} {s n q c : Nat} (hs : s < 5) (hq : q < c - 1) (hc : c ≤ 6) : ∀ v : SY, gy_sizes v s = nI c → (∀ Q : SY → Prop, (∀ v', wY_drop_18 post (nI s) n (nI (6 * s + q + 1)) (gy_active v') (gy_outPlace v') (gy_outHeader v') (gy_seen v') (gy_links v') (gy_sizes v') (gy_matches v') (gy_actions v') (gy_changes v') (gy_states v') (gy_places v') (gy_headers v') (gy_tables v') (gy_treated v') → Q v') → wpY_put Q v (nI (6 * s + q)) (gy_matches v (6 * s + q + 1)) (gy_actions v (6 * s + q + 1)) (gy_changes v (6 * s + q + 1))) → wY_drop_18 post (nI s) (n + 1) (nI (6 * s + q)) (gy_active v) (gy_outPlace v) (gy_outHeader v) (gy_seen v) (gy_links v) (gy_sizes v) (gy_matches v) (gy_actions v) (gy_changes v) (gy_states v) (gy_places v) (gy_headers v) (gy_tables v) (gy_treated v) := by
  rintro ⟨f_active, f_outPlace, f_outHeader, f_seen, a_links, a_sizes, a_matches, a_actions, a_changes, a_states, a_places, a_headers, a_tables, a_treated⟩ ec H
  have hv : vp_in (nI s) 20 := vp_in_nI (by omega) (by decide)
  have e1 : (6 : Int32) * nI s + a_sizes (nI s).toNatClampNeg - 1 = nI (6 * s + (c - 1)) := by
    rw [nI_clamp (by omega), show a_sizes s = nI c from ec, nb_6, show 6 * s + c = 6 * s + (c - 1) + 1 by omega, nI_pred]
  have e2 : nI (6 * s + q) + 1 = nI (6 * s + q + 1) := nI_1 _
  have v1 : vp_in (nI (6 * s + q + 1)) 120 := vp_in_nI (by omega) (by decide)
  have key : wY_drop_18 post (nI s) (n + 1) (nI (6 * s + q)) f_active f_outPlace f_outHeader f_seen a_links a_sizes a_matches a_actions a_changes a_states a_places a_headers a_tables a_treated := by
    refine And.intro hv (pk_le (6 * s + (c - 1)) (6 * s + q) (fun z => absurd z (by omega)) (fun _ => ?_) e1 rfl)
    rw [e2, nI_clamp (show 6 * s + q + 1 < 2 ^ 31 by omega)]
    refine And.intro v1 (And.intro v1 (And.intro v1 (H _ ?_)))
    rintro ⟨f_active2, f_outPlace2, f_outHeader2, f_seen2, a_links2, a_sizes2, a_matches2, a_actions2, a_changes2, a_states2, a_places2, a_headers2, a_tables2, a_treated2⟩ h
    exact nm_e h
  exact key
theorem yo_e {post : Int32 → SY → Prop} {s n c : Nat} (hs : s < 5) (h0 : 0 < c) (hc : c ≤ 6) : ∀ v : SY, gy_sizes v s = nI c → post (nI (c - 1)) (sy_rules v (upd (gy_sizes v) s (nI (c - 1))) (gy_matches v) (gy_actions v) (gy_changes v)) → wY_drop_18 post (nI s) (n + 1) (nI (6 * s + (c - 1))) (gy_active v) (gy_outPlace v) (gy_outHeader v) (gy_seen v) (gy_links v) (gy_sizes v) (gy_matches v) (gy_actions v) (gy_changes v) (gy_states v) (gy_places v) (gy_headers v) (gy_tables v) (gy_treated v) := by
  rintro ⟨f_active, f_outPlace, f_outHeader, f_seen, a_links, a_sizes, a_matches, a_actions, a_changes, a_states, a_places, a_headers, a_tables, a_treated⟩ ec hp
  have hv : vp_in (nI s) 20 := vp_in_nI (by omega) (by decide)
  have ec' : a_sizes s = nI c := ec
  have e1 : (6 : Int32) * nI s + a_sizes (nI s).toNatClampNeg - 1 = nI (6 * s + (c - 1)) := by
    rw [nI_clamp (by omega), ec', nb_6, show 6 * s + c = 6 * s + (c - 1) + 1 by omega, nI_pred]
  have e3 : a_sizes s - 1 = nI (c - 1) := by
    rw [ec', show c = c - 1 + 1 by omega, nI_pred]
    exact congrArg nI (by omega)
  have key : wY_drop_18 post (nI s) (n + 1) (nI (6 * s + (c - 1))) f_active f_outPlace f_outHeader f_seen a_links a_sizes a_matches a_actions a_changes a_states a_places a_headers a_tables a_treated := by
    refine And.intro hv (pk_le (6 * s + (c - 1)) (6 * s + (c - 1)) (fun _ => And.intro hv (And.intro hv ?_)) (fun z => absurd z (by omega)) e1 rfl)
    rw [nI_clamp (by omega)]
    refine nm_r (congrArg (upd a_sizes s) e3) (And.intro hv ?_)
    rw [pk_us]
    exact hp
  exact key
theorem yo_l {post : Int32 → SY → Prop} {s c lo : Nat} (hs : s < 5) (h0 : 0 < c) (hc : c ≤ 6) (v : SY) (m a h : Nat → Int32) (ec : gy_sizes v s = nI c) (hp : post (nI (c - 1)) (sy_rules v (upd (gy_sizes v) s (nI (c - 1))) (sh_d m lo (6 * s + (c - 1))) (sh_d a lo (6 * s + (c - 1))) (sh_d h lo (6 * s + (c - 1))))) : ∀ d q, q + d = c - 1 → lo ≤ 6 * s + q → wY_drop_18 post (nI s) (d + 1) (nI (6 * s + q)) (gy_active (sy_rules v (gy_sizes v) (sh_d m lo (6 * s + q)) (sh_d a lo (6 * s + q)) (sh_d h lo (6 * s + q)))) (gy_outPlace (sy_rules v (gy_sizes v) (sh_d m lo (6 * s + q)) (sh_d a lo (6 * s + q)) (sh_d h lo (6 * s + q)))) (gy_outHeader (sy_rules v (gy_sizes v) (sh_d m lo (6 * s + q)) (sh_d a lo (6 * s + q)) (sh_d h lo (6 * s + q)))) (gy_seen (sy_rules v (gy_sizes v) (sh_d m lo (6 * s + q)) (sh_d a lo (6 * s + q)) (sh_d h lo (6 * s + q)))) (gy_links (sy_rules v (gy_sizes v) (sh_d m lo (6 * s + q)) (sh_d a lo (6 * s + q)) (sh_d h lo (6 * s + q)))) (gy_sizes (sy_rules v (gy_sizes v) (sh_d m lo (6 * s + q)) (sh_d a lo (6 * s + q)) (sh_d h lo (6 * s + q)))) (gy_matches (sy_rules v (gy_sizes v) (sh_d m lo (6 * s + q)) (sh_d a lo (6 * s + q)) (sh_d h lo (6 * s + q)))) (gy_actions (sy_rules v (gy_sizes v) (sh_d m lo (6 * s + q)) (sh_d a lo (6 * s + q)) (sh_d h lo (6 * s + q)))) (gy_changes (sy_rules v (gy_sizes v) (sh_d m lo (6 * s + q)) (sh_d a lo (6 * s + q)) (sh_d h lo (6 * s + q)))) (gy_states (sy_rules v (gy_sizes v) (sh_d m lo (6 * s + q)) (sh_d a lo (6 * s + q)) (sh_d h lo (6 * s + q)))) (gy_places (sy_rules v (gy_sizes v) (sh_d m lo (6 * s + q)) (sh_d a lo (6 * s + q)) (sh_d h lo (6 * s + q)))) (gy_headers (sy_rules v (gy_sizes v) (sh_d m lo (6 * s + q)) (sh_d a lo (6 * s + q)) (sh_d h lo (6 * s + q)))) (gy_tables (sy_rules v (gy_sizes v) (sh_d m lo (6 * s + q)) (sh_d a lo (6 * s + q)) (sh_d h lo (6 * s + q)))) (gy_treated (sy_rules v (gy_sizes v) (sh_d m lo (6 * s + q)) (sh_d a lo (6 * s + q)) (sh_d h lo (6 * s + q)))) := by
  intro d
  induction d with
  | zero =>
    intro q hq hlo
    have eq : q = c - 1 := by omega
    subst eq
    exact yo_e hs h0 hc _ ec hp
  | succ d ih =>
    intro q hq hlo
    refine yo_s hs (c := c) (by omega) hc _ ec (fun Q hQ => ?_)
    refine yp_put (by omega) rfl _ (hQ _ ?_)
    have := ih (q + 1) (by omega) (by omega)
    rw [← Nat.add_assoc, ← sh_ds m hlo, ← sh_ds a hlo, ← sh_ds h hlo] at this
    exact this
theorem yo_drop {post : Int32 → SY → Prop} {s i c : Nat} (hs : s < 5) (hi : i < c) (hc : c ≤ 6) (v : SY) (ec : gy_sizes v s = nI c) (hp : post (nI (c - 1)) (sy_rules v (upd (gy_sizes v) s (nI (c - 1))) (sh_d (gy_matches v) (6 * s + i) (6 * s + (c - 1))) (sh_d (gy_actions v) (6 * s + i) (6 * s + (c - 1))) (sh_d (gy_changes v) (6 * s + i) (6 * s + (c - 1))))) : wpY_drop post v (nI s) (nI i) := by
  have key := yo_l (post := post) (lo := 6 * s + i) hs (by omega) hc v (gy_matches v) (gy_actions v) (gy_changes v) ec hp (c - 1 - i) i (by omega) (Nat.le_refl _)
  rw [sh_d0, sh_d0, sh_d0] at key
  clear hp
  have kr : ∀ Q : Int32 → Prop, Q 0 → wpY_noRule Q v (nI s) (nI i) := fun Q hQ => yR_g hs (by omega) hi v ec hQ
  obtain ⟨f_active, f_outPlace, f_outHeader, f_seen, a_links, a_sizes, a_matches, a_actions, a_changes, a_states, a_places, a_headers, a_tables, a_treated⟩ := v
  unfold wpY_drop
  refine kr _ ?_
  refine br_t rfl (nm_r (nb_6 s i) ?_)
  exact Exists.intro _ key
theorem i_vc_drop {k : Nat} {u : SX} {v : SY} (I : i_Rel k u v) (hk : k + 5 ≤ 2560) (v1 : Int32) (v2 : Int32) : wpX_drop (fun r u' => wpY_drop (fun r' v' => r' = r ∧ i_Rel (k + 5) u' v') v v1 v2) u v1 v2 := by
  have R := i_up I
  obtain ⟨T0, hT, HX, HY, RT⟩ := rl_T R
  clear I
  have hx := tb_0 HX
  have hy := tb_0 HY
  clear HX HY
  rcases bd_or 5 (by decide) v1 with h1 | ⟨s, hs, rfl⟩
  · have kx : ∀ Q : Int32 → Prop, Q 0 → wpX_isRule Q u v1 v2 := fun Q hQ => xR_b1 h1 u hQ
    have ky : ∀ Q : Int32 → Prop, Q 1 → wpY_noRule Q v v1 v2 := fun Q hQ => yR_b1 h1 v hQ
    clear hx hy RT
    obtain ⟨f_active, f_outPlace, f_outHeader, f_freeNode, f_freeCount, f_keptDiagram, f_depth, f_got, f_stamp, a_links, a_ruleCount, a_matches, a_actions, a_changes, a_states, a_places, a_headers, a_tables, a_treated, a_nodes, a_following, a_marked, a_bucket, a_now, a_next, a_layer, a_workLevel, a_workOne, a_workTwo, a_workPhase, a_workLow, a_memoStamp, a_memoOne, a_memoTwo, a_memoLevel, a_memoGot⟩ := u
    obtain ⟨g_active, g_outPlace, g_outHeader, g_seen, b_links, b_sizes, b_matches, b_actions, b_changes, b_states, b_places, b_headers, b_tables, b_treated⟩ := v
    unfold wpX_drop
    refine kx _ ?_
    refine br_t rfl ?_
    unfold wpY_drop
    refine ky _ ?_
    exact br_f (by decide) ⟨rfl, R⟩
  have h6 := hT.1 s hs
  rcases bd_or (tb_c T0 s) (by omega) v2 with h2 | ⟨i, hi, rfl⟩
  · have kx : ∀ Q : Int32 → Prop, Q 0 → wpX_isRule Q u (nI s) v2 := fun Q hQ => xR_b2 hs (by omega) h2 u (hx.1 s hs) hQ
    have ky : ∀ Q : Int32 → Prop, Q 1 → wpY_noRule Q v (nI s) v2 := fun Q hQ => yR_b2 hs (by omega) h2 v (hy.1 s hs) hQ
    clear hx hy RT
    obtain ⟨f_active, f_outPlace, f_outHeader, f_freeNode, f_freeCount, f_keptDiagram, f_depth, f_got, f_stamp, a_links, a_ruleCount, a_matches, a_actions, a_changes, a_states, a_places, a_headers, a_tables, a_treated, a_nodes, a_following, a_marked, a_bucket, a_now, a_next, a_layer, a_workLevel, a_workOne, a_workTwo, a_workPhase, a_workLow, a_memoStamp, a_memoOne, a_memoTwo, a_memoLevel, a_memoGot⟩ := u
    obtain ⟨g_active, g_outPlace, g_outHeader, g_seen, b_links, b_sizes, b_matches, b_actions, b_changes, b_states, b_places, b_headers, b_tables, b_treated⟩ := v
    unfold wpX_drop
    refine kx _ ?_
    refine br_t rfl ?_
    unfold wpY_drop
    refine ky _ ?_
    exact br_f (by decide) ⟨rfl, R⟩
  refine xo_drop hs hi h6 u (hx.1 s hs) (yo_drop hs hi h6 v (hy.1 s hs) ⟨rfl, ?_⟩)
  have h29 : 6 * s + (tb_c T0 s - 1) ≤ 29 := by omega
  refine RT (un_f (tb_c T0) s (tb_c T0 s - 1), sh_d (tb_m T0) (6 * s + i) (6 * s + (tb_c T0 s - 1)), sh_d (tb_a T0) (6 * s + i) (6 * s + (tb_c T0 s - 1)), sh_d (tb_h T0) (6 * s + i) (6 * s + (tb_c T0 s - 1))) _ _ _ _ _ _ _ _ ⟨un_c hT (by omega), fun j hj => ⟨sh_lt (P := fun z => z < 4096) h29 (fun j hj => (hT.2 j hj).1) j hj, sh_lt (P := fun z => z ≤ 5) h29 (fun j hj => (hT.2 j hj).2.1) j hj, sh_lt (P := fun z => z < 4096) h29 (fun j hj => (hT.2 j hj).2.2) j hj⟩⟩ (tb_0' ⟨fun q hq => un_u (hx.1 q hq), fun j hj => ⟨sh_n h29 (fun j hj => (hx.2 j hj).1) j hj, sh_n h29 (fun j hj => (hx.2 j hj).2.1) j hj, sh_n h29 (fun j hj => (hx.2 j hj).2.2) j hj⟩⟩) (tb_0' ⟨fun q hq => un_u (hy.1 q hq), fun j hj => ⟨sh_n h29 (fun j hj => (hy.2 j hj).1) j hj, sh_n h29 (fun j hj => (hy.2 j hj).2.1) j hj, sh_n h29 (fun j hj => (hy.2 j hj).2.2) j hj⟩⟩) ⟨fun q hq => pk_un (by omega), fun q hq => ⟨sh_k _ h29 q hq, sh_k _ h29 q hq, sh_k _ h29 q hq⟩⟩ ⟨fun q hq => pk_un (by omega), fun q hq => ⟨sh_k _ h29 q hq, sh_k _ h29 q hq, sh_k _ h29 q hq⟩⟩
end
section
/-! move -/
theorem xm_97e {post : Int32 → SX → Prop} {s j q n : Nat} {x4 x5 x6 : Int32} (hs : s < 5) (hj : j < 6) (hq : q ≤ j) : ∀ u : SX, post 0 (sx_rules u (gx_ruleCount u) (upd (gx_matches u) (6 * s + j) x4) (upd (gx_actions u) (6 * s + j) x5) (upd (gx_changes u) (6 * s + j) x6)) → wX_move_97 post (nI s) (nI j) x4 x5 x6 (n + 1) (nI q) (gx_active u) (gx_outPlace u) (gx_outHeader u) (gx_freeNode u) (gx_freeCount u) (gx_keptDiagram u) (gx_depth u) (gx_got u) (gx_stamp u) (gx_links u) (gx_ruleCount u) (gx_matches u) (gx_actions u) (gx_changes u) (gx_states u) (gx_places u) (gx_headers u) (gx_tables u) (gx_treated u) (gx_nodes u) (gx_following u) (gx_marked u) (gx_bucket u) (gx_now u) (gx_next u) (gx_layer u) (gx_workLevel u) (gx_workOne u) (gx_workTwo u) (gx_workPhase u) (gx_workLow u) (gx_memoStamp u) (gx_memoOne u) (gx_memoTwo u) (gx_memoLevel u) (gx_memoGot u) := by
  rintro ⟨f_active, f_outPlace, f_outHeader, f_freeNode, f_freeCount, f_keptDiagram, f_depth, f_got, f_stamp, a_links, a_ruleCount, a_matches, a_actions, a_changes, a_states, a_places, a_headers, a_tables, a_treated, a_nodes, a_following, a_marked, a_bucket, a_now, a_next, a_layer, a_workLevel, a_workOne, a_workTwo, a_workPhase, a_workLow, a_memoStamp, a_memoOne, a_memoTwo, a_memoLevel, a_memoGot⟩ hp
  have hv : vp_in (nI (6 * s + j)) 120 := vp_in_nI (by omega) (by decide)
  have key : wX_move_97 post (nI s) (nI j) x4 x5 x6 (n + 1) (nI q) f_active f_outPlace f_outHeader f_freeNode f_freeCount f_keptDiagram f_depth f_got f_stamp a_links a_ruleCount a_matches a_actions a_changes a_states a_places a_headers a_tables a_treated a_nodes a_following a_marked a_bucket a_now a_next a_layer a_workLevel a_workOne a_workTwo a_workPhase a_workLow a_memoStamp a_memoOne a_memoTwo a_memoLevel a_memoGot := by
    refine br_t (nI_le hq (by omega)) ?_
    rw [nb_6, nI_clamp (show 6 * s + j < 2 ^ 31 by omega)]
    exact And.intro hv (nm_e (And.intro hv (nm_e (And.intro hv (nm_e hp)))))
  exact key
theorem xm_97s {post : Int32 → SX → Prop} {s j q n : Nat} {x4 x5 x6 : Int32} (hs : s < 5) (hj : j < q + 1) (hq : q + 1 < 6) : ∀ u : SX, (∀ Q : SX → Prop, (∀ u', wX_move_97 post (nI s) (nI j) x4 x5 x6 n (nI q) (gx_active u') (gx_outPlace u') (gx_outHeader u') (gx_freeNode u') (gx_freeCount u') (gx_keptDiagram u') (gx_depth u') (gx_got u') (gx_stamp u') (gx_links u') (gx_ruleCount u') (gx_matches u') (gx_actions u') (gx_changes u') (gx_states u') (gx_places u') (gx_headers u') (gx_tables u') (gx_treated u') (gx_nodes u') (gx_following u') (gx_marked u') (gx_bucket u') (gx_now u') (gx_next u') (gx_layer u') (gx_workLevel u') (gx_workOne u') (gx_workTwo u') (gx_workPhase u') (gx_workLow u') (gx_memoStamp u') (gx_memoOne u') (gx_memoTwo u') (gx_memoLevel u') (gx_memoGot u') → Q u') → wpX_copyRule Q u (nI (6 * s + q)) (nI (6 * s + q + 1))) → wX_move_97 post (nI s) (nI j) x4 x5 x6 (n + 1) (nI (q + 1)) (gx_active u) (gx_outPlace u) (gx_outHeader u) (gx_freeNode u) (gx_freeCount u) (gx_keptDiagram u) (gx_depth u) (gx_got u) (gx_stamp u) (gx_links u) (gx_ruleCount u) (gx_matches u) (gx_actions u) (gx_changes u) (gx_states u) (gx_places u) (gx_headers u) (gx_tables u) (gx_treated u) (gx_nodes u) (gx_following u) (gx_marked u) (gx_bucket u) (gx_now u) (gx_next u) (gx_layer u) (gx_workLevel u) (gx_workOne u) (gx_workTwo u) (gx_workPhase u) (gx_workLow u) (gx_memoStamp u) (gx_memoOne u) (gx_memoTwo u) (gx_memoLevel u) (gx_memoGot u) := by
  rintro ⟨f_active, f_outPlace, f_outHeader, f_freeNode, f_freeCount, f_keptDiagram, f_depth, f_got, f_stamp, a_links, a_ruleCount, a_matches, a_actions, a_changes, a_states, a_places, a_headers, a_tables, a_treated, a_nodes, a_following, a_marked, a_bucket, a_now, a_next, a_layer, a_workLevel, a_workOne, a_workTwo, a_workPhase, a_workLow, a_memoStamp, a_memoOne, a_memoTwo, a_memoLevel, a_memoGot⟩ H
  have e1 : (6 : Int32) * nI s + nI (q + 1) = nI (6 * s + q + 1) := nb_6 s (q + 1)
  have key : wX_move_97 post (nI s) (nI j) x4 x5 x6 (n + 1) (nI (q + 1)) f_active f_outPlace f_outHeader f_freeNode f_freeCount f_keptDiagram f_depth f_got f_stamp a_links a_ruleCount a_matches a_actions a_changes a_states a_places a_headers a_tables a_treated a_nodes a_following a_marked a_bucket a_now a_next a_layer a_workLevel a_workOne a_workTwo a_workPhase a_workLow a_memoStamp a_memoOne a_memoTwo a_memoLevel a_memoGot := by
    refine br_f (nI_ge hj (by omega)) ?_
    rw [e1, nI_pred]
    refine H _ ?_
    rintro ⟨f_active2, f_outPlace2, f_outHeader2, f_freeNode2, f_freeCount2, f_keptDiagram2, f_depth2, f_got2, f_stamp2, a_links2, a_ruleCount2, a_matches2, a_actions2, a_changes2, a_states2, a_places2, a_headers2, a_tables2, a_treated2, a_nodes2, a_following2, a_marked2, a_bucket2, a_now2, a_next2, a_layer2, a_workLevel2, a_workOne2, a_workTwo2, a_workPhase2, a_workLow2, a_memoStamp2, a_memoOne2, a_memoTwo2, a_memoLevel2, a_memoGot2⟩ h
    exact nm_r (pk_m1 q) h
  exact key
theorem xm_62e {post : Int32 → SX → Prop} {s i j q n : Nat} {x4 x5 x6 : Int32} (hj : j ≤ q) (hq : q < 6) : ∀ u : SX, (∃ n97, wX_move_97 post (nI s) (nI j) x4 x5 x6 n97 (nI i) (gx_active u) (gx_outPlace u) (gx_outHeader u) (gx_freeNode u) (gx_freeCount u) (gx_keptDiagram u) (gx_depth u) (gx_got u) (gx_stamp u) (gx_links u) (gx_ruleCount u) (gx_matches u) (gx_actions u) (gx_changes u) (gx_states u) (gx_places u) (gx_headers u) (gx_tables u) (gx_treated u) (gx_nodes u) (gx_following u) (gx_marked u) (gx_bucket u) (gx_now u) (gx_next u) (gx_layer u) (gx_workLevel u) (gx_workOne u) (gx_workTwo u) (gx_workPhase u) (gx_workLow u) (gx_memoStamp u) (gx_memoOne u) (gx_memoTwo u) (gx_memoLevel u) (gx_memoGot u)) → wX_move_62 post (nI s) (nI i) (nI j) x4 x5 x6 (n + 1) (nI q) (gx_active u) (gx_outPlace u) (gx_outHeader u) (gx_freeNode u) (gx_freeCount u) (gx_keptDiagram u) (gx_depth u) (gx_got u) (gx_stamp u) (gx_links u) (gx_ruleCount u) (gx_matches u) (gx_actions u) (gx_changes u) (gx_states u) (gx_places u) (gx_headers u) (gx_tables u) (gx_treated u) (gx_nodes u) (gx_following u) (gx_marked u) (gx_bucket u) (gx_now u) (gx_next u) (gx_layer u) (gx_workLevel u) (gx_workOne u) (gx_workTwo u) (gx_workPhase u) (gx_workLow u) (gx_memoStamp u) (gx_memoOne u) (gx_memoTwo u) (gx_memoLevel u) (gx_memoGot u) := by
  intro u H
  exact br_t (nI_le hj (by omega)) H
theorem xm_62s {post : Int32 → SX → Prop} {s i j q n : Nat} {x4 x5 x6 : Int32} (hs : s < 5) (hj : q < j) (hq : j < 6) : ∀ u : SX, (∀ Q : SX → Prop, (∀ u', wX_move_62 post (nI s) (nI i) (nI j) x4 x5 x6 n (nI (q + 1)) (gx_active u') (gx_outPlace u') (gx_outHeader u') (gx_freeNode u') (gx_freeCount u') (gx_keptDiagram u') (gx_depth u') (gx_got u') (gx_stamp u') (gx_links u') (gx_ruleCount u') (gx_matches u') (gx_actions u') (gx_changes u') (gx_states u') (gx_places u') (gx_headers u') (gx_tables u') (gx_treated u') (gx_nodes u') (gx_following u') (gx_marked u') (gx_bucket u') (gx_now u') (gx_next u') (gx_layer u') (gx_workLevel u') (gx_workOne u') (gx_workTwo u') (gx_workPhase u') (gx_workLow u') (gx_memoStamp u') (gx_memoOne u') (gx_memoTwo u') (gx_memoLevel u') (gx_memoGot u') → Q u') → wpX_copyRule Q u (nI (6 * s + q + 1)) (nI (6 * s + q))) → wX_move_62 post (nI s) (nI i) (nI j) x4 x5 x6 (n + 1) (nI q) (gx_active u) (gx_outPlace u) (gx_outHeader u) (gx_freeNode u) (gx_freeCount u) (gx_keptDiagram u) (gx_depth u) (gx_got u) (gx_stamp u) (gx_links u) (gx_ruleCount u) (gx_matches u) (gx_actions u) (gx_changes u) (gx_states u) (gx_places u) (gx_headers u) (gx_tables u) (gx_treated u) (gx_nodes u) (gx_following u) (gx_marked u) (gx_bucket u) (gx_now u) (gx_next u) (gx_layer u) (gx_workLevel u) (gx_workOne u) (gx_workTwo u) (gx_workPhase u) (gx_workLow u) (gx_memoStamp u) (gx_memoOne u) (gx_memoTwo u) (gx_memoLevel u) (gx_memoGot u) := by
  rintro ⟨f_active, f_outPlace, f_outHeader, f_freeNode, f_freeCount, f_keptDiagram, f_depth, f_got, f_stamp, a_links, a_ruleCount, a_matches, a_actions, a_changes, a_states, a_places, a_headers, a_tables, a_treated, a_nodes, a_following, a_marked, a_bucket, a_now, a_next, a_layer, a_workLevel, a_workOne, a_workTwo, a_workPhase, a_workLow, a_memoStamp, a_memoOne, a_memoTwo, a_memoLevel, a_memoGot⟩ H
  have key : wX_move_62 post (nI s) (nI i) (nI j) x4 x5 x6 (n + 1) (nI q) f_active f_outPlace f_outHeader f_freeNode f_freeCount f_keptDiagram f_depth f_got f_stamp a_links a_ruleCount a_matches a_actions a_changes a_states a_places a_headers a_tables a_treated a_nodes a_following a_marked a_bucket a_now a_next a_layer a_workLevel a_workOne a_workTwo a_workPhase a_workLow a_memoStamp a_memoOne a_memoTwo a_memoLevel a_memoGot := by
    refine br_f (nI_ge hj (by omega)) ?_
    rw [nb_6, nI_1 (6 * s + q)]
    refine H _ ?_
    rintro ⟨f_active2, f_outPlace2, f_outHeader2, f_freeNode2, f_freeCount2, f_keptDiagram2, f_depth2, f_got2, f_stamp2, a_links2, a_ruleCount2, a_matches2, a_actions2, a_changes2, a_states2, a_places2, a_headers2, a_tables2, a_treated2, a_nodes2, a_following2, a_marked2, a_bucket2, a_now2, a_next2, a_layer2, a_workLevel2, a_workOne2, a_workTwo2, a_workPhase2, a_workLow2, a_memoStamp2, a_memoOne2, a_memoTwo2, a_memoLevel2, a_memoGot2⟩ h
    exact nm_r (nI_1 q) h
  exact key
theorem xm_97l {post : Int32 → SX → Prop} {s i j : Nat} {x4 x5 x6 : Int32} (hs : s < 5) (hi : i < 6) (u : SX) (c m a h : Nat → Int32) (hp : post 0 (sx_rules u c (upd (sh_u m (6 * s + j) (6 * s + i)) (6 * s + j) x4) (upd (sh_u a (6 * s + j) (6 * s + i)) (6 * s + j) x5) (upd (sh_u h (6 * s + j) (6 * s + i)) (6 * s + j) x6))) : ∀ d, j + d ≤ i → wX_move_97 post (nI s) (nI j) x4 x5 x6 (d + 1) (nI (j + d)) (gx_active (sx_rules u c (sh_u m (6 * s + (j + d)) (6 * s + i)) (sh_u a (6 * s + (j + d)) (6 * s + i)) (sh_u h (6 * s + (j + d)) (6 * s + i)))) (gx_outPlace (sx_rules u c (sh_u m (6 * s + (j + d)) (6 * s + i)) (sh_u a (6 * s + (j + d)) (6 * s + i)) (sh_u h (6 * s + (j + d)) (6 * s + i)))) (gx_outHeader (sx_rules u c (sh_u m (6 * s + (j + d)) (6 * s + i)) (sh_u a (6 * s + (j + d)) (6 * s + i)) (sh_u h (6 * s + (j + d)) (6 * s + i)))) (gx_freeNode (sx_rules u c (sh_u m (6 * s + (j + d)) (6 * s + i)) (sh_u a (6 * s + (j + d)) (6 * s + i)) (sh_u h (6 * s + (j + d)) (6 * s + i)))) (gx_freeCount (sx_rules u c (sh_u m (6 * s + (j + d)) (6 * s + i)) (sh_u a (6 * s + (j + d)) (6 * s + i)) (sh_u h (6 * s + (j + d)) (6 * s + i)))) (gx_keptDiagram (sx_rules u c (sh_u m (6 * s + (j + d)) (6 * s + i)) (sh_u a (6 * s + (j + d)) (6 * s + i)) (sh_u h (6 * s + (j + d)) (6 * s + i)))) (gx_depth (sx_rules u c (sh_u m (6 * s + (j + d)) (6 * s + i)) (sh_u a (6 * s + (j + d)) (6 * s + i)) (sh_u h (6 * s + (j + d)) (6 * s + i)))) (gx_got (sx_rules u c (sh_u m (6 * s + (j + d)) (6 * s + i)) (sh_u a (6 * s + (j + d)) (6 * s + i)) (sh_u h (6 * s + (j + d)) (6 * s + i)))) (gx_stamp (sx_rules u c (sh_u m (6 * s + (j + d)) (6 * s + i)) (sh_u a (6 * s + (j + d)) (6 * s + i)) (sh_u h (6 * s + (j + d)) (6 * s + i)))) (gx_links (sx_rules u c (sh_u m (6 * s + (j + d)) (6 * s + i)) (sh_u a (6 * s + (j + d)) (6 * s + i)) (sh_u h (6 * s + (j + d)) (6 * s + i)))) (gx_ruleCount (sx_rules u c (sh_u m (6 * s + (j + d)) (6 * s + i)) (sh_u a (6 * s + (j + d)) (6 * s + i)) (sh_u h (6 * s + (j + d)) (6 * s + i)))) (gx_matches (sx_rules u c (sh_u m (6 * s + (j + d)) (6 * s + i)) (sh_u a (6 * s + (j + d)) (6 * s + i)) (sh_u h (6 * s + (j + d)) (6 * s + i)))) (gx_actions (sx_rules u c (sh_u m (6 * s + (j + d)) (6 * s + i)) (sh_u a (6 * s + (j + d)) (6 * s + i)) (sh_u h (6 * s + (j + d)) (6 * s + i)))) (gx_changes (sx_rules u c (sh_u m (6 * s + (j + d)) (6 * s + i)) (sh_u a (6 * s + (j + d)) (6 * s + i)) (sh_u h (6 * s + (j + d)) (6 * s + i)))) (gx_states (sx_rules u c (sh_u m (6 * s + (j + d)) (6 * s + i)) (sh_u a (6 * s + (j + d)) (6 * s + i)) (sh_u h (6 * s + (j + d)) (6 * s + i)))) (gx_places (sx_rules u c (sh_u m (6 * s + (j + d)) (6 * s + i)) (sh_u a (6 * s + (j + d)) (6 * s + i)) (sh_u h (6 * s + (j + d)) (6 * s + i)))) (gx_headers (sx_rules u c (sh_u m (6 * s + (j + d)) (6 * s + i)) (sh_u a (6 * s + (j + d)) (6 * s + i)) (sh_u h (6 * s + (j + d)) (6 * s + i)))) (gx_tables (sx_rules u c (sh_u m (6 * s + (j + d)) (6 * s + i)) (sh_u a (6 * s + (j + d)) (6 * s + i)) (sh_u h (6 * s + (j + d)) (6 * s + i)))) (gx_treated (sx_rules u c (sh_u m (6 * s + (j + d)) (6 * s + i)) (sh_u a (6 * s + (j + d)) (6 * s + i)) (sh_u h (6 * s + (j + d)) (6 * s + i)))) (gx_nodes (sx_rules u c (sh_u m (6 * s + (j + d)) (6 * s + i)) (sh_u a (6 * s + (j + d)) (6 * s + i)) (sh_u h (6 * s + (j + d)) (6 * s + i)))) (gx_following (sx_rules u c (sh_u m (6 * s + (j + d)) (6 * s + i)) (sh_u a (6 * s + (j + d)) (6 * s + i)) (sh_u h (6 * s + (j + d)) (6 * s + i)))) (gx_marked (sx_rules u c (sh_u m (6 * s + (j + d)) (6 * s + i)) (sh_u a (6 * s + (j + d)) (6 * s + i)) (sh_u h (6 * s + (j + d)) (6 * s + i)))) (gx_bucket (sx_rules u c (sh_u m (6 * s + (j + d)) (6 * s + i)) (sh_u a (6 * s + (j + d)) (6 * s + i)) (sh_u h (6 * s + (j + d)) (6 * s + i)))) (gx_now (sx_rules u c (sh_u m (6 * s + (j + d)) (6 * s + i)) (sh_u a (6 * s + (j + d)) (6 * s + i)) (sh_u h (6 * s + (j + d)) (6 * s + i)))) (gx_next (sx_rules u c (sh_u m (6 * s + (j + d)) (6 * s + i)) (sh_u a (6 * s + (j + d)) (6 * s + i)) (sh_u h (6 * s + (j + d)) (6 * s + i)))) (gx_layer (sx_rules u c (sh_u m (6 * s + (j + d)) (6 * s + i)) (sh_u a (6 * s + (j + d)) (6 * s + i)) (sh_u h (6 * s + (j + d)) (6 * s + i)))) (gx_workLevel (sx_rules u c (sh_u m (6 * s + (j + d)) (6 * s + i)) (sh_u a (6 * s + (j + d)) (6 * s + i)) (sh_u h (6 * s + (j + d)) (6 * s + i)))) (gx_workOne (sx_rules u c (sh_u m (6 * s + (j + d)) (6 * s + i)) (sh_u a (6 * s + (j + d)) (6 * s + i)) (sh_u h (6 * s + (j + d)) (6 * s + i)))) (gx_workTwo (sx_rules u c (sh_u m (6 * s + (j + d)) (6 * s + i)) (sh_u a (6 * s + (j + d)) (6 * s + i)) (sh_u h (6 * s + (j + d)) (6 * s + i)))) (gx_workPhase (sx_rules u c (sh_u m (6 * s + (j + d)) (6 * s + i)) (sh_u a (6 * s + (j + d)) (6 * s + i)) (sh_u h (6 * s + (j + d)) (6 * s + i)))) (gx_workLow (sx_rules u c (sh_u m (6 * s + (j + d)) (6 * s + i)) (sh_u a (6 * s + (j + d)) (6 * s + i)) (sh_u h (6 * s + (j + d)) (6 * s + i)))) (gx_memoStamp (sx_rules u c (sh_u m (6 * s + (j + d)) (6 * s + i)) (sh_u a (6 * s + (j + d)) (6 * s + i)) (sh_u h (6 * s + (j + d)) (6 * s + i)))) (gx_memoOne (sx_rules u c (sh_u m (6 * s + (j + d)) (6 * s + i)) (sh_u a (6 * s + (j + d)) (6 * s + i)) (sh_u h (6 * s + (j + d)) (6 * s + i)))) (gx_memoTwo (sx_rules u c (sh_u m (6 * s + (j + d)) (6 * s + i)) (sh_u a (6 * s + (j + d)) (6 * s + i)) (sh_u h (6 * s + (j + d)) (6 * s + i)))) (gx_memoLevel (sx_rules u c (sh_u m (6 * s + (j + d)) (6 * s + i)) (sh_u a (6 * s + (j + d)) (6 * s + i)) (sh_u h (6 * s + (j + d)) (6 * s + i)))) (gx_memoGot (sx_rules u c (sh_u m (6 * s + (j + d)) (6 * s + i)) (sh_u a (6 * s + (j + d)) (6 * s + i)) (sh_u h (6 * s + (j + d)) (6 * s + i)))) := by
  intro d
  induction d with
  | zero =>
    intro hd
    exact xm_97e hs (by omega) (Nat.le_refl _) _ hp
  | succ d ih =>
    intro hd
    refine xm_97s (q := j + d) hs (by omega) (by omega) _ (fun Q hQ => ?_)
    refine xp_copy (by omega) (by omega) rfl rfl _ (hQ _ ?_)
    have := ih (by omega)
    rw [← sh_us m (q := 6 * s + (j + d)) (by omega), ← sh_us a (q := 6 * s + (j + d)) (by omega), ← sh_us h (q := 6 * s + (j + d)) (by omega)] at this
    exact this
theorem xm_62l {post : Int32 → SX → Prop} {s i j : Nat} {x4 x5 x6 : Int32} (hs : s < 5) (hj : j < 6) (u : SX) (c m a h : Nat → Int32) (hp : ∃ n97, wX_move_97 post (nI s) (nI j) x4 x5 x6 n97 (nI i) (gx_active (sx_rules u c (sh_d m (6 * s + i) (6 * s + j)) (sh_d a (6 * s + i) (6 * s + j)) (sh_d h (6 * s + i) (6 * s + j)))) (gx_outPlace (sx_rules u c (sh_d m (6 * s + i) (6 * s + j)) (sh_d a (6 * s + i) (6 * s + j)) (sh_d h (6 * s + i) (6 * s + j)))) (gx_outHeader (sx_rules u c (sh_d m (6 * s + i) (6 * s + j)) (sh_d a (6 * s + i) (6 * s + j)) (sh_d h (6 * s + i) (6 * s + j)))) (gx_freeNode (sx_rules u c (sh_d m (6 * s + i) (6 * s + j)) (sh_d a (6 * s + i) (6 * s + j)) (sh_d h (6 * s + i) (6 * s + j)))) (gx_freeCount (sx_rules u c (sh_d m (6 * s + i) (6 * s + j)) (sh_d a (6 * s + i) (6 * s + j)) (sh_d h (6 * s + i) (6 * s + j)))) (gx_keptDiagram (sx_rules u c (sh_d m (6 * s + i) (6 * s + j)) (sh_d a (6 * s + i) (6 * s + j)) (sh_d h (6 * s + i) (6 * s + j)))) (gx_depth (sx_rules u c (sh_d m (6 * s + i) (6 * s + j)) (sh_d a (6 * s + i) (6 * s + j)) (sh_d h (6 * s + i) (6 * s + j)))) (gx_got (sx_rules u c (sh_d m (6 * s + i) (6 * s + j)) (sh_d a (6 * s + i) (6 * s + j)) (sh_d h (6 * s + i) (6 * s + j)))) (gx_stamp (sx_rules u c (sh_d m (6 * s + i) (6 * s + j)) (sh_d a (6 * s + i) (6 * s + j)) (sh_d h (6 * s + i) (6 * s + j)))) (gx_links (sx_rules u c (sh_d m (6 * s + i) (6 * s + j)) (sh_d a (6 * s + i) (6 * s + j)) (sh_d h (6 * s + i) (6 * s + j)))) (gx_ruleCount (sx_rules u c (sh_d m (6 * s + i) (6 * s + j)) (sh_d a (6 * s + i) (6 * s + j)) (sh_d h (6 * s + i) (6 * s + j)))) (gx_matches (sx_rules u c (sh_d m (6 * s + i) (6 * s + j)) (sh_d a (6 * s + i) (6 * s + j)) (sh_d h (6 * s + i) (6 * s + j)))) (gx_actions (sx_rules u c (sh_d m (6 * s + i) (6 * s + j)) (sh_d a (6 * s + i) (6 * s + j)) (sh_d h (6 * s + i) (6 * s + j)))) (gx_changes (sx_rules u c (sh_d m (6 * s + i) (6 * s + j)) (sh_d a (6 * s + i) (6 * s + j)) (sh_d h (6 * s + i) (6 * s + j)))) (gx_states (sx_rules u c (sh_d m (6 * s + i) (6 * s + j)) (sh_d a (6 * s + i) (6 * s + j)) (sh_d h (6 * s + i) (6 * s + j)))) (gx_places (sx_rules u c (sh_d m (6 * s + i) (6 * s + j)) (sh_d a (6 * s + i) (6 * s + j)) (sh_d h (6 * s + i) (6 * s + j)))) (gx_headers (sx_rules u c (sh_d m (6 * s + i) (6 * s + j)) (sh_d a (6 * s + i) (6 * s + j)) (sh_d h (6 * s + i) (6 * s + j)))) (gx_tables (sx_rules u c (sh_d m (6 * s + i) (6 * s + j)) (sh_d a (6 * s + i) (6 * s + j)) (sh_d h (6 * s + i) (6 * s + j)))) (gx_treated (sx_rules u c (sh_d m (6 * s + i) (6 * s + j)) (sh_d a (6 * s + i) (6 * s + j)) (sh_d h (6 * s + i) (6 * s + j)))) (gx_nodes (sx_rules u c (sh_d m (6 * s + i) (6 * s + j)) (sh_d a (6 * s + i) (6 * s + j)) (sh_d h (6 * s + i) (6 * s + j)))) (gx_following (sx_rules u c (sh_d m (6 * s + i) (6 * s + j)) (sh_d a (6 * s + i) (6 * s + j)) (sh_d h (6 * s + i) (6 * s + j)))) (gx_marked (sx_rules u c (sh_d m (6 * s + i) (6 * s + j)) (sh_d a (6 * s + i) (6 * s + j)) (sh_d h (6 * s + i) (6 * s + j)))) (gx_bucket (sx_rules u c (sh_d m (6 * s + i) (6 * s + j)) (sh_d a (6 * s + i) (6 * s + j)) (sh_d h (6 * s + i) (6 * s + j)))) (gx_now (sx_rules u c (sh_d m (6 * s + i) (6 * s + j)) (sh_d a (6 * s + i) (6 * s + j)) (sh_d h (6 * s + i) (6 * s + j)))) (gx_next (sx_rules u c (sh_d m (6 * s + i) (6 * s + j)) (sh_d a (6 * s + i) (6 * s + j)) (sh_d h (6 * s + i) (6 * s + j)))) (gx_layer (sx_rules u c (sh_d m (6 * s + i) (6 * s + j)) (sh_d a (6 * s + i) (6 * s + j)) (sh_d h (6 * s + i) (6 * s + j)))) (gx_workLevel (sx_rules u c (sh_d m (6 * s + i) (6 * s + j)) (sh_d a (6 * s + i) (6 * s + j)) (sh_d h (6 * s + i) (6 * s + j)))) (gx_workOne (sx_rules u c (sh_d m (6 * s + i) (6 * s + j)) (sh_d a (6 * s + i) (6 * s + j)) (sh_d h (6 * s + i) (6 * s + j)))) (gx_workTwo (sx_rules u c (sh_d m (6 * s + i) (6 * s + j)) (sh_d a (6 * s + i) (6 * s + j)) (sh_d h (6 * s + i) (6 * s + j)))) (gx_workPhase (sx_rules u c (sh_d m (6 * s + i) (6 * s + j)) (sh_d a (6 * s + i) (6 * s + j)) (sh_d h (6 * s + i) (6 * s + j)))) (gx_workLow (sx_rules u c (sh_d m (6 * s + i) (6 * s + j)) (sh_d a (6 * s + i) (6 * s + j)) (sh_d h (6 * s + i) (6 * s + j)))) (gx_memoStamp (sx_rules u c (sh_d m (6 * s + i) (6 * s + j)) (sh_d a (6 * s + i) (6 * s + j)) (sh_d h (6 * s + i) (6 * s + j)))) (gx_memoOne (sx_rules u c (sh_d m (6 * s + i) (6 * s + j)) (sh_d a (6 * s + i) (6 * s + j)) (sh_d h (6 * s + i) (6 * s + j)))) (gx_memoTwo (sx_rules u c (sh_d m (6 * s + i) (6 * s + j)) (sh_d a (6 * s + i) (6 * s + j)) (sh_d h (6 * s + i) (6 * s + j)))) (gx_memoLevel (sx_rules u c (sh_d m (6 * s + i) (6 * s + j)) (sh_d a (6 * s + i) (6 * s + j)) (sh_d h (6 * s + i) (6 * s + j)))) (gx_memoGot (sx_rules u c (sh_d m (6 * s + i) (6 * s + j)) (sh_d a (6 * s + i) (6 * s + j)) (sh_d h (6 * s + i) (6 * s + j))))) : ∀ d q, q + d = j → i ≤ q → wX_move_62 post (nI s) (nI i) (nI j) x4 x5 x6 (d + 1) (nI q) (gx_active (sx_rules u c (sh_d m (6 * s + i) (6 * s + q)) (sh_d a (6 * s + i) (6 * s + q)) (sh_d h (6 * s + i) (6 * s + q)))) (gx_outPlace (sx_rules u c (sh_d m (6 * s + i) (6 * s + q)) (sh_d a (6 * s + i) (6 * s + q)) (sh_d h (6 * s + i) (6 * s + q)))) (gx_outHeader (sx_rules u c (sh_d m (6 * s + i) (6 * s + q)) (sh_d a (6 * s + i) (6 * s + q)) (sh_d h (6 * s + i) (6 * s + q)))) (gx_freeNode (sx_rules u c (sh_d m (6 * s + i) (6 * s + q)) (sh_d a (6 * s + i) (6 * s + q)) (sh_d h (6 * s + i) (6 * s + q)))) (gx_freeCount (sx_rules u c (sh_d m (6 * s + i) (6 * s + q)) (sh_d a (6 * s + i) (6 * s + q)) (sh_d h (6 * s + i) (6 * s + q)))) (gx_keptDiagram (sx_rules u c (sh_d m (6 * s + i) (6 * s + q)) (sh_d a (6 * s + i) (6 * s + q)) (sh_d h (6 * s + i) (6 * s + q)))) (gx_depth (sx_rules u c (sh_d m (6 * s + i) (6 * s + q)) (sh_d a (6 * s + i) (6 * s + q)) (sh_d h (6 * s + i) (6 * s + q)))) (gx_got (sx_rules u c (sh_d m (6 * s + i) (6 * s + q)) (sh_d a (6 * s + i) (6 * s + q)) (sh_d h (6 * s + i) (6 * s + q)))) (gx_stamp (sx_rules u c (sh_d m (6 * s + i) (6 * s + q)) (sh_d a (6 * s + i) (6 * s + q)) (sh_d h (6 * s + i) (6 * s + q)))) (gx_links (sx_rules u c (sh_d m (6 * s + i) (6 * s + q)) (sh_d a (6 * s + i) (6 * s + q)) (sh_d h (6 * s + i) (6 * s + q)))) (gx_ruleCount (sx_rules u c (sh_d m (6 * s + i) (6 * s + q)) (sh_d a (6 * s + i) (6 * s + q)) (sh_d h (6 * s + i) (6 * s + q)))) (gx_matches (sx_rules u c (sh_d m (6 * s + i) (6 * s + q)) (sh_d a (6 * s + i) (6 * s + q)) (sh_d h (6 * s + i) (6 * s + q)))) (gx_actions (sx_rules u c (sh_d m (6 * s + i) (6 * s + q)) (sh_d a (6 * s + i) (6 * s + q)) (sh_d h (6 * s + i) (6 * s + q)))) (gx_changes (sx_rules u c (sh_d m (6 * s + i) (6 * s + q)) (sh_d a (6 * s + i) (6 * s + q)) (sh_d h (6 * s + i) (6 * s + q)))) (gx_states (sx_rules u c (sh_d m (6 * s + i) (6 * s + q)) (sh_d a (6 * s + i) (6 * s + q)) (sh_d h (6 * s + i) (6 * s + q)))) (gx_places (sx_rules u c (sh_d m (6 * s + i) (6 * s + q)) (sh_d a (6 * s + i) (6 * s + q)) (sh_d h (6 * s + i) (6 * s + q)))) (gx_headers (sx_rules u c (sh_d m (6 * s + i) (6 * s + q)) (sh_d a (6 * s + i) (6 * s + q)) (sh_d h (6 * s + i) (6 * s + q)))) (gx_tables (sx_rules u c (sh_d m (6 * s + i) (6 * s + q)) (sh_d a (6 * s + i) (6 * s + q)) (sh_d h (6 * s + i) (6 * s + q)))) (gx_treated (sx_rules u c (sh_d m (6 * s + i) (6 * s + q)) (sh_d a (6 * s + i) (6 * s + q)) (sh_d h (6 * s + i) (6 * s + q)))) (gx_nodes (sx_rules u c (sh_d m (6 * s + i) (6 * s + q)) (sh_d a (6 * s + i) (6 * s + q)) (sh_d h (6 * s + i) (6 * s + q)))) (gx_following (sx_rules u c (sh_d m (6 * s + i) (6 * s + q)) (sh_d a (6 * s + i) (6 * s + q)) (sh_d h (6 * s + i) (6 * s + q)))) (gx_marked (sx_rules u c (sh_d m (6 * s + i) (6 * s + q)) (sh_d a (6 * s + i) (6 * s + q)) (sh_d h (6 * s + i) (6 * s + q)))) (gx_bucket (sx_rules u c (sh_d m (6 * s + i) (6 * s + q)) (sh_d a (6 * s + i) (6 * s + q)) (sh_d h (6 * s + i) (6 * s + q)))) (gx_now (sx_rules u c (sh_d m (6 * s + i) (6 * s + q)) (sh_d a (6 * s + i) (6 * s + q)) (sh_d h (6 * s + i) (6 * s + q)))) (gx_next (sx_rules u c (sh_d m (6 * s + i) (6 * s + q)) (sh_d a (6 * s + i) (6 * s + q)) (sh_d h (6 * s + i) (6 * s + q)))) (gx_layer (sx_rules u c (sh_d m (6 * s + i) (6 * s + q)) (sh_d a (6 * s + i) (6 * s + q)) (sh_d h (6 * s + i) (6 * s + q)))) (gx_workLevel (sx_rules u c (sh_d m (6 * s + i) (6 * s + q)) (sh_d a (6 * s + i) (6 * s + q)) (sh_d h (6 * s + i) (6 * s + q)))) (gx_workOne (sx_rules u c (sh_d m (6 * s + i) (6 * s + q)) (sh_d a (6 * s + i) (6 * s + q)) (sh_d h (6 * s + i) (6 * s + q)))) (gx_workTwo (sx_rules u c (sh_d m (6 * s + i) (6 * s + q)) (sh_d a (6 * s + i) (6 * s + q)) (sh_d h (6 * s + i) (6 * s + q)))) (gx_workPhase (sx_rules u c (sh_d m (6 * s + i) (6 * s + q)) (sh_d a (6 * s + i) (6 * s + q)) (sh_d h (6 * s + i) (6 * s + q)))) (gx_workLow (sx_rules u c (sh_d m (6 * s + i) (6 * s + q)) (sh_d a (6 * s + i) (6 * s + q)) (sh_d h (6 * s + i) (6 * s + q)))) (gx_memoStamp (sx_rules u c (sh_d m (6 * s + i) (6 * s + q)) (sh_d a (6 * s + i) (6 * s + q)) (sh_d h (6 * s + i) (6 * s + q)))) (gx_memoOne (sx_rules u c (sh_d m (6 * s + i) (6 * s + q)) (sh_d a (6 * s + i) (6 * s + q)) (sh_d h (6 * s + i) (6 * s + q)))) (gx_memoTwo (sx_rules u c (sh_d m (6 * s + i) (6 * s + q)) (sh_d a (6 * s + i) (6 * s + q)) (sh_d h (6 * s + i) (6 * s + q)))) (gx_memoLevel (sx_rules u c (sh_d m (6 * s + i) (6 * s + q)) (sh_d a (6 * s + i) (6 * s + q)) (sh_d h (6 * s + i) (6 * s + q)))) (gx_memoGot (sx_rules u c (sh_d m (6 * s + i) (6 * s + q)) (sh_d a (6 * s + i) (6 * s + q)) (sh_d h (6 * s + i) (6 * s + q)))) := by
  intro d
  induction d with
  | zero =>
    intro q hq hlo
    have eq : q = j := by omega
    subst eq
    exact xm_62e (Nat.le_refl _) (by omega) _ hp
  | succ d ih =>
    intro q hq hlo
    refine xm_62s hs (by omega) hj _ (fun Q hQ => ?_)
    refine xp_copy (by omega) (by omega) rfl rfl _ (hQ _ ?_)
    have := ih (q + 1) (by omega) (by omega)
    have hl : 6 * s + i ≤ 6 * s + q := by omega
    rw [← Nat.add_assoc, ← sh_ds m hl, ← sh_ds a hl, ← sh_ds h hl] at this
    exact this
theorem xm_move {post : Int32 → SX → Prop} {s i j c : Nat} (hs : s < 5) (hi : i < c) (hj : j < c) (hc : c ≤ 6) (u : SX) (ec : gx_ruleCount u s = nI c) (hp : post 0 (sx_rules u (gx_ruleCount u) (mv_f (gx_matches u) (6 * s + i) (6 * s + j)) (mv_f (gx_actions u) (6 * s + i) (6 * s + j)) (mv_f (gx_changes u) (6 * s + i) (6 * s + j)))) : wpX_move post u (nI s) (nI i) (nI j) := by
  have key : ∃ n62, wX_move_62 post (nI s) (nI i) (nI j) (gx_matches u (6 * s + i)) (gx_actions u (6 * s + i)) (gx_changes u (6 * s + i)) n62 (nI i) (gx_active u) (gx_outPlace u) (gx_outHeader u) (gx_freeNode u) (gx_freeCount u) (gx_keptDiagram u) (gx_depth u) (gx_got u) (gx_stamp u) (gx_links u) (gx_ruleCount u) (gx_matches u) (gx_actions u) (gx_changes u) (gx_states u) (gx_places u) (gx_headers u) (gx_tables u) (gx_treated u) (gx_nodes u) (gx_following u) (gx_marked u) (gx_bucket u) (gx_now u) (gx_next u) (gx_layer u) (gx_workLevel u) (gx_workOne u) (gx_workTwo u) (gx_workPhase u) (gx_workLow u) (gx_memoStamp u) (gx_memoOne u) (gx_memoTwo u) (gx_memoLevel u) (gx_memoGot u) := by
    by_cases hij : i ≤ j
    · rw [← mv_d (gx_matches u) (show 6 * s + i ≤ 6 * s + j by omega), ← mv_d (gx_actions u) (show 6 * s + i ≤ 6 * s + j by omega), ← mv_d (gx_changes u) (show 6 * s + i ≤ 6 * s + j by omega)] at hp
      have k := xm_62l (post := post) (i := i) (j := j) (x4 := gx_matches u (6 * s + i)) (x5 := gx_actions u (6 * s + i)) (x6 := gx_changes u (6 * s + i)) hs (by omega) u (gx_ruleCount u) (gx_matches u) (gx_actions u) (gx_changes u) ⟨1, xm_97e hs (by omega) hij _ hp⟩ (j - i) i (by omega) (Nat.le_refl _)
      rw [sh_d0, sh_d0, sh_d0] at k
      exact ⟨_, k⟩
    · rw [← mv_u (gx_matches u) (show 6 * s + j < 6 * s + i by omega), ← mv_u (gx_actions u) (show 6 * s + j < 6 * s + i by omega), ← mv_u (gx_changes u) (show 6 * s + j < 6 * s + i by omega)] at hp
      have k := xm_97l (post := post) (i := i) (j := j) hs (by omega) u (gx_ruleCount u) (gx_matches u) (gx_actions u) (gx_changes u) hp (i - j) (by omega)
      rw [show j + (i - j) = i by omega, sh_u0, sh_u0, sh_u0] at k
      exact ⟨1, xm_62e (n := 0) (by omega) (by omega) u ⟨_, k⟩⟩
  clear hp
  have kr : ∀ (i : Nat), i < c → ∀ Q : Int32 → Prop, Q 1 → wpX_isRule Q u (nI s) (nI i) := fun i hi Q hQ => xR_g hs (by omega) hi u ec hQ
  have hv : vp_in (nI (6 * s + i)) 120 := vp_in_nI (by omega) (by decide)
  have cl : (nI (6 * s + i)).toNatClampNeg = 6 * s + i := nI_clamp (by omega)
  obtain ⟨f_active, f_outPlace, f_outHeader, f_freeNode, f_freeCount, f_keptDiagram, f_depth, f_got, f_stamp, a_links, a_ruleCount, a_matches, a_actions, a_changes, a_states, a_places, a_headers, a_tables, a_treated, a_nodes, a_following, a_marked, a_bucket, a_now, a_next, a_layer, a_workLevel, a_workOne, a_workTwo, a_workPhase, a_workLow, a_memoStamp, a_memoOne, a_memoTwo, a_memoLevel, a_memoGot⟩ := u
  unfold wpX_move
  refine kr i hi _ ?_
  refine br_f (by decide) ?_
  refine kr j hj _ ?_
  refine br_f (by decide) ?_
  rw [nb_6, cl]
  exact And.intro hv (nm_e (And.intro hv (nm_e (And.intro hv (nm_e key)))))
theorem ym_75e {post : Int32 → SY → Prop} {s j n : Nat} {x5 x6 x7 : Int32} (hs : s < 5) (hj : j < 6) : ∀ v : SY, (∀ Q : SY → Prop, (∀ v' : SY, post 0 (sy_rules v' (upd (gy_sizes v') s (gy_sizes v' s + 1)) (gy_matches v') (gy_actions v') (gy_changes v')) → Q v') → wpY_put Q v (nI (6 * s + j)) x5 x6 x7) → wY_move_75 post (nI s) (nI j) x5 x6 x7 (n + 1) (nI (6 * s + j)) (gy_active v) (gy_outPlace v) (gy_outHeader v) (gy_seen v) (gy_links v) (gy_sizes v) (gy_matches v) (gy_actions v) (gy_changes v) (gy_states v) (gy_places v) (gy_headers v) (gy_tables v) (gy_treated v) := by
  rintro ⟨f_active, f_outPlace, f_outHeader, f_seen, a_links, a_sizes, a_matches, a_actions, a_changes, a_states, a_places, a_headers, a_tables, a_treated⟩ H
  have hv : vp_in (nI s) 20 := vp_in_nI (by omega) (by decide)
  have key : wY_move_75 post (nI s) (nI j) x5 x6 x7 (n + 1) (nI (6 * s + j)) f_active f_outPlace f_outHeader f_seen a_links a_sizes a_matches a_actions a_changes a_states a_places a_headers a_tables a_treated := by
    refine br_t (by rw [nb_6]; exact nI_le (Nat.le_refl _) (by omega)) ?_
    rw [nb_6]
    refine H _ ?_
    rintro ⟨f_active2, f_outPlace2, f_outHeader2, f_seen2, a_links2, a_sizes2, a_matches2, a_actions2, a_changes2, a_states2, a_places2, a_headers2, a_tables2, a_treated2⟩ h
    refine And.intro hv (And.intro hv ?_)
    rw [nI_clamp (by omega)]
    exact nm_e h
  exact key
theorem ym_75s {post : Int32 → SY → Prop} {s j p n : Nat} {x5 x6 x7 : Int32} (hs : s < 5) (hj : 6 * s + j < p + 1) (hp : p + 1 < 120) : ∀ v : SY, (∀ Q : SY → Prop, (∀ v' : SY, wY_move_75 post (nI s) (nI j) x5 x6 x7 n (nI p) (gy_active v') (gy_outPlace v') (gy_outHeader v') (gy_seen v') (gy_links v') (gy_sizes v') (gy_matches v') (gy_actions v') (gy_changes v') (gy_states v') (gy_places v') (gy_headers v') (gy_tables v') (gy_treated v') → Q v') → wpY_put Q v (nI (p + 1)) (gy_matches v p) (gy_actions v p) (gy_changes v p)) → wY_move_75 post (nI s) (nI j) x5 x6 x7 (n + 1) (nI (p + 1)) (gy_active v) (gy_outPlace v) (gy_outHeader v) (gy_seen v) (gy_links v) (gy_sizes v) (gy_matches v) (gy_actions v) (gy_changes v) (gy_states v) (gy_places v) (gy_headers v) (gy_tables v) (gy_treated v) := by
  rintro ⟨f_active, f_outPlace, f_outHeader, f_seen, a_links, a_sizes, a_matches, a_actions, a_changes, a_states, a_places, a_headers, a_tables, a_treated⟩ H
  have hv : vp_in (nI p) 120 := vp_in_nI (by omega) (by decide)
  have key : wY_move_75 post (nI s) (nI j) x5 x6 x7 (n + 1) (nI (p + 1)) f_active f_outPlace f_outHeader f_seen a_links a_sizes a_matches a_actions a_changes a_states a_places a_headers a_tables a_treated := by
    refine br_f (by rw [nb_6]; exact nI_ge hj (by omega)) ?_
    rw [nI_pred, nI_clamp (show p < 2 ^ 31 by omega)]
    refine And.intro hv (And.intro hv (And.intro hv (H _ ?_)))
    rintro ⟨f_active2, f_outPlace2, f_outHeader2, f_seen2, a_links2, a_sizes2, a_matches2, a_actions2, a_changes2, a_states2, a_places2, a_headers2, a_tables2, a_treated2⟩ h
    exact nm_r (pk_m1 p) h
  exact key
theorem ym_75l {post : Int32 → SY → Prop} {s j e : Nat} {x5 x6 x7 : Int32} (hs : s < 5) (hj : j < 6) (he : e < 120) (v : SY) (c m a h : Nat → Int32) (hp : post 0 (sy_rules v (upd c s (c s + 1)) (upd (sh_u m (6 * s + j) e) (6 * s + j) x5) (upd (sh_u a (6 * s + j) e) (6 * s + j) x6) (upd (sh_u h (6 * s + j) e) (6 * s + j) x7))) : ∀ d, 6 * s + j + d ≤ e → wY_move_75 post (nI s) (nI j) x5 x6 x7 (d + 1) (nI (6 * s + j + d)) (gy_active (sy_rules v c (sh_u m (6 * s + j + d) e) (sh_u a (6 * s + j + d) e) (sh_u h (6 * s + j + d) e))) (gy_outPlace (sy_rules v c (sh_u m (6 * s + j + d) e) (sh_u a (6 * s + j + d) e) (sh_u h (6 * s + j + d) e))) (gy_outHeader (sy_rules v c (sh_u m (6 * s + j + d) e) (sh_u a (6 * s + j + d) e) (sh_u h (6 * s + j + d) e))) (gy_seen (sy_rules v c (sh_u m (6 * s + j + d) e) (sh_u a (6 * s + j + d) e) (sh_u h (6 * s + j + d) e))) (gy_links (sy_rules v c (sh_u m (6 * s + j + d) e) (sh_u a (6 * s + j + d) e) (sh_u h (6 * s + j + d) e))) (gy_sizes (sy_rules v c (sh_u m (6 * s + j + d) e) (sh_u a (6 * s + j + d) e) (sh_u h (6 * s + j + d) e))) (gy_matches (sy_rules v c (sh_u m (6 * s + j + d) e) (sh_u a (6 * s + j + d) e) (sh_u h (6 * s + j + d) e))) (gy_actions (sy_rules v c (sh_u m (6 * s + j + d) e) (sh_u a (6 * s + j + d) e) (sh_u h (6 * s + j + d) e))) (gy_changes (sy_rules v c (sh_u m (6 * s + j + d) e) (sh_u a (6 * s + j + d) e) (sh_u h (6 * s + j + d) e))) (gy_states (sy_rules v c (sh_u m (6 * s + j + d) e) (sh_u a (6 * s + j + d) e) (sh_u h (6 * s + j + d) e))) (gy_places (sy_rules v c (sh_u m (6 * s + j + d) e) (sh_u a (6 * s + j + d) e) (sh_u h (6 * s + j + d) e))) (gy_headers (sy_rules v c (sh_u m (6 * s + j + d) e) (sh_u a (6 * s + j + d) e) (sh_u h (6 * s + j + d) e))) (gy_tables (sy_rules v c (sh_u m (6 * s + j + d) e) (sh_u a (6 * s + j + d) e) (sh_u h (6 * s + j + d) e))) (gy_treated (sy_rules v c (sh_u m (6 * s + j + d) e) (sh_u a (6 * s + j + d) e) (sh_u h (6 * s + j + d) e))) := by
  intro d
  induction d with
  | zero =>
    intro hd
    refine ym_75e hs hj _ (fun Q hQ => ?_)
    exact yp_put (by omega) rfl _ (hQ _ hp)
  | succ d ih =>
    intro hd
    refine ym_75s (p := 6 * s + j + d) hs (by omega) (by omega) _ (fun Q hQ => ?_)
    refine yp_put (by omega) rfl _ (hQ _ ?_)
    have := ih (by omega)
    rw [← sh_us m (q := 6 * s + j + d) (by omega), ← sh_us a (q := 6 * s + j + d) (by omega), ← sh_us h (q := 6 * s + j + d) (by omega)] at this
    exact this
theorem ym_w {post : Int32 → SY → Prop} {s i j c : Nat} (hs : s < 5) (hi : i < c) (hj : j < c) (hc : c ≤ 6) : ∀ v : SY, gy_sizes v s = nI c → (∀ Q : Int32 → SY → Prop, (∀ r (v' : SY), (∃ n75, wY_move_75 post (nI s) (nI j) (gy_matches v (6 * s + i)) (gy_actions v (6 * s + i)) (gy_changes v (6 * s + i)) n75 (6 * nI s + gy_sizes v' s) (gy_active v') (gy_outPlace v') (gy_outHeader v') (gy_seen v') (gy_links v') (gy_sizes v') (gy_matches v') (gy_actions v') (gy_changes v') (gy_states v') (gy_places v') (gy_headers v') (gy_tables v') (gy_treated v')) → Q r v') → wpY_drop Q v (nI s) (nI i)) → wpY_move post v (nI s) (nI i) (nI j) := by
  intro v ec H
  have kr : ∀ (i : Nat), i < c → ∀ Q : Int32 → Prop, Q 0 → wpY_noRule Q v (nI s) (nI i) := fun i hi Q hQ => yR_g hs (by omega) hi v ec hQ
  have hv : vp_in (nI (6 * s + i)) 120 := vp_in_nI (by omega) (by decide)
  have hvs : vp_in (nI s) 20 := vp_in_nI (by omega) (by decide)
  have cl : (nI (6 * s + i)).toNatClampNeg = 6 * s + i := nI_clamp (by omega)
  obtain ⟨f_active, f_outPlace, f_outHeader, f_seen, a_links, a_sizes, a_matches, a_actions, a_changes, a_states, a_places, a_headers, a_tables, a_treated⟩ := v
  unfold wpY_move
  refine kr i hi _ ?_
  refine br_t rfl ?_
  refine kr j hj _ ?_
  refine br_t rfl (nm_r (nb_6 s i) ?_)
  rw [cl]
  refine And.intro hv (nm_e (And.intro hv (nm_e (And.intro hv (nm_e ?_)))))
  refine H _ ?_
  rintro r ⟨f_active2, f_outPlace2, f_outHeader2, f_seen2, a_links2, a_sizes2, a_matches2, a_actions2, a_changes2, a_states2, a_places2, a_headers2, a_tables2, a_treated2⟩ h
  refine And.intro hvs ?_
  rw [nI_clamp (by omega)]
  exact nm_e h
theorem ym_move {post : Int32 → SY → Prop} {s i j c : Nat} (hs : s < 5) (hi : i < c) (hj : j < c) (hc : c ≤ 6) (v : SY) (ec : gy_sizes v s = nI c) (hp : post 0 (sy_rules v (upd (upd (gy_sizes v) s (nI (c - 1))) s (nI c)) (mv_f (gy_matches v) (6 * s + i) (6 * s + j)) (mv_f (gy_actions v) (6 * s + i) (6 * s + j)) (mv_f (gy_changes v) (6 * s + i) (6 * s + j)))) : wpY_move post v (nI s) (nI i) (nI j) := by
  refine ym_w hs hi hj hc v ec (fun Q hQ => ?_)
  refine yo_drop hs hi hc v ec (hQ _ _ ?_)
  have e1 : 6 * nI s + gy_sizes (sy_rules v (upd (gy_sizes v) s (nI (c - 1))) (sh_d (gy_matches v) (6 * s + i) (6 * s + (c - 1))) (sh_d (gy_actions v) (6 * s + i) (6 * s + (c - 1))) (sh_d (gy_changes v) (6 * s + i) (6 * s + (c - 1)))) s = nI (6 * s + (c - 1)) := by
    show 6 * nI s + upd (gy_sizes v) s (nI (c - 1)) s = _
    rw [pk_us, nb_6]
  rw [e1]
  have ha : 6 * s + i ≤ 6 * s + (c - 1) := by omega
  have hb : 6 * s + j ≤ 6 * s + (c - 1) := by omega
  rw [← mv_y (gy_matches v) ha hb, ← mv_y (gy_actions v) ha hb, ← mv_y (gy_changes v) ha hb] at hp
  have e2 : upd (gy_sizes v) s (nI (c - 1)) s + 1 = nI c := by
    rw [pk_us, nI_1]; exact congrArg nI (by omega)
  rw [← e2] at hp
  have k := ym_75l (post := post) (j := j) (e := 6 * s + (c - 1)) hs (by omega) (by omega) v (upd (gy_sizes v) s (nI (c - 1))) (sh_d (gy_matches v) (6 * s + i) (6 * s + (c - 1))) (sh_d (gy_actions v) (6 * s + i) (6 * s + (c - 1))) (sh_d (gy_changes v) (6 * s + i) (6 * s + (c - 1))) hp (c - 1 - j) (by omega)
  rw [show 6 * s + j + (c - 1 - j) = 6 * s + (c - 1) by omega, sh_u0, sh_u0, sh_u0] at k
  exact ⟨_, k⟩
theorem i_vc_move {k : Nat} {u : SX} {v : SY} (I : i_Rel k u v) (hk : k + 5 ≤ 2560) (v1 : Int32) (v2 : Int32) (v3 : Int32) : wpX_move (fun r u' => wpY_move (fun r' v' => r' = r ∧ i_Rel (k + 5) u' v') v v1 v2 v3) u v1 v2 v3 := by
  have R := i_up I
  obtain ⟨T0, hT, HX, HY, RT⟩ := rl_T R
  clear I
  have hx := tb_0 HX
  have hy := tb_0 HY
  clear HX HY
  rcases bd_or 5 (by decide) v1 with h1 | ⟨s, hs, rfl⟩
  · have kx : ∀ Q : Int32 → Prop, Q 0 → wpX_isRule Q u v1 v2 := fun Q hQ => xR_b1 h1 u hQ
    have ky : ∀ Q : Int32 → Prop, Q 1 → wpY_noRule Q v v1 v2 := fun Q hQ => yR_b1 h1 v hQ
    clear hx hy RT
    obtain ⟨f_active, f_outPlace, f_outHeader, f_freeNode, f_freeCount, f_keptDiagram, f_depth, f_got, f_stamp, a_links, a_ruleCount, a_matches, a_actions, a_changes, a_states, a_places, a_headers, a_tables, a_treated, a_nodes, a_following, a_marked, a_bucket, a_now, a_next, a_layer, a_workLevel, a_workOne, a_workTwo, a_workPhase, a_workLow, a_memoStamp, a_memoOne, a_memoTwo, a_memoLevel, a_memoGot⟩ := u
    obtain ⟨g_active, g_outPlace, g_outHeader, g_seen, b_links, b_sizes, b_matches, b_actions, b_changes, b_states, b_places, b_headers, b_tables, b_treated⟩ := v
    unfold wpX_move
    refine kx _ ?_
    refine br_t rfl ?_
    unfold wpY_move
    refine ky _ ?_
    exact br_f (by decide) ⟨rfl, R⟩
  have h6 := hT.1 s hs
  rcases bd_or (tb_c T0 s) (by omega) v2 with h2 | ⟨i, hi, rfl⟩
  · have kx : ∀ Q : Int32 → Prop, Q 0 → wpX_isRule Q u (nI s) v2 := fun Q hQ => xR_b2 hs (by omega) h2 u (hx.1 s hs) hQ
    have ky : ∀ Q : Int32 → Prop, Q 1 → wpY_noRule Q v (nI s) v2 := fun Q hQ => yR_b2 hs (by omega) h2 v (hy.1 s hs) hQ
    clear hx hy RT
    obtain ⟨f_active, f_outPlace, f_outHeader, f_freeNode, f_freeCount, f_keptDiagram, f_depth, f_got, f_stamp, a_links, a_ruleCount, a_matches, a_actions, a_changes, a_states, a_places, a_headers, a_tables, a_treated, a_nodes, a_following, a_marked, a_bucket, a_now, a_next, a_layer, a_workLevel, a_workOne, a_workTwo, a_workPhase, a_workLow, a_memoStamp, a_memoOne, a_memoTwo, a_memoLevel, a_memoGot⟩ := u
    obtain ⟨g_active, g_outPlace, g_outHeader, g_seen, b_links, b_sizes, b_matches, b_actions, b_changes, b_states, b_places, b_headers, b_tables, b_treated⟩ := v
    unfold wpX_move
    refine kx _ ?_
    refine br_t rfl ?_
    unfold wpY_move
    refine ky _ ?_
    exact br_f (by decide) ⟨rfl, R⟩
  rcases bd_or (tb_c T0 s) (by omega) v3 with h3 | ⟨j, hj, rfl⟩
  · have kx0 : ∀ Q : Int32 → Prop, Q 1 → wpX_isRule Q u (nI s) (nI i) := fun Q hQ => xR_g hs (by omega) hi u (hx.1 s hs) hQ
    have ky0 : ∀ Q : Int32 → Prop, Q 0 → wpY_noRule Q v (nI s) (nI i) := fun Q hQ => yR_g hs (by omega) hi v (hy.1 s hs) hQ
    have kx : ∀ Q : Int32 → Prop, Q 0 → wpX_isRule Q u (nI s) v3 := fun Q hQ => xR_b2 hs (by omega) h3 u (hx.1 s hs) hQ
    have ky : ∀ Q : Int32 → Prop, Q 1 → wpY_noRule Q v (nI s) v3 := fun Q hQ => yR_b2 hs (by omega) h3 v (hy.1 s hs) hQ
    clear hx hy RT
    obtain ⟨f_active, f_outPlace, f_outHeader, f_freeNode, f_freeCount, f_keptDiagram, f_depth, f_got, f_stamp, a_links, a_ruleCount, a_matches, a_actions, a_changes, a_states, a_places, a_headers, a_tables, a_treated, a_nodes, a_following, a_marked, a_bucket, a_now, a_next, a_layer, a_workLevel, a_workOne, a_workTwo, a_workPhase, a_workLow, a_memoStamp, a_memoOne, a_memoTwo, a_memoLevel, a_memoGot⟩ := u
    obtain ⟨g_active, g_outPlace, g_outHeader, g_seen, b_links, b_sizes, b_matches, b_actions, b_changes, b_states, b_places, b_headers, b_tables, b_treated⟩ := v
    unfold wpX_move
    refine kx0 _ ?_
    refine br_f (by decide) ?_
    refine kx _ ?_
    refine br_t rfl ?_
    unfold wpY_move
    refine ky0 _ ?_
    refine br_t rfl ?_
    refine ky _ ?_
    exact br_f (by decide) ⟨rfl, R⟩
  refine xm_move hs hi hj h6 u (hx.1 s hs) (ym_move hs hi hj h6 v (hy.1 s hs) ⟨rfl, ?_⟩)
  have ha : 6 * s + i < 30 := by omega
  have hb : 6 * s + j < 30 := by omega
  refine RT (tb_c T0, mv_f (tb_m T0) (6 * s + i) (6 * s + j), mv_f (tb_a T0) (6 * s + i) (6 * s + j), mv_f (tb_h T0) (6 * s + i) (6 * s + j)) _ _ _ _ _ _ _ _ ⟨hT.1, fun j' hj' => ⟨mv_lt (P := fun z => z < 4096) ha hb (fun j hj => (hT.2 j hj).1) j' hj', mv_lt (P := fun z => z ≤ 5) ha hb (fun j hj => (hT.2 j hj).2.1) j' hj', mv_lt (P := fun z => z < 4096) ha hb (fun j hj => (hT.2 j hj).2.2) j' hj'⟩⟩ (tb_0' ⟨fun q hq => hx.1 q hq, fun j hj => ⟨mv_n ha hb (fun j hj => (hx.2 j hj).1) j hj, mv_n ha hb (fun j hj => (hx.2 j hj).2.1) j hj, mv_n ha hb (fun j hj => (hx.2 j hj).2.2) j hj⟩⟩) (tb_0' ⟨fun q hq => ?_, fun j hj => ⟨mv_n ha hb (fun j hj => (hy.2 j hj).1) j hj, mv_n ha hb (fun j hj => (hy.2 j hj).2.1) j hj, mv_n ha hb (fun j hj => (hy.2 j hj).2.2) j hj⟩⟩) ⟨fun q hq => rfl, fun q hq => ⟨mv_k _ ha hb q hq, mv_k _ ha hb q hq, mv_k _ ha hb q hq⟩⟩ ⟨fun q hq => by rw [pk_un (by omega), pk_un (by omega)], fun q hq => ⟨mv_k _ ha hb q hq, mv_k _ ha hb q hq, mv_k _ ha hb q hq⟩⟩
  by_cases e : q = s
  · rw [e, pk_us]; rfl
  · rw [pk_un e, pk_un e]; exact hy.1 q hq
end
section
/-! copyTable on both sides -/
def cp_I (f f' : Nat → Int32) (src dst n : Nat) : Prop := (∀ j, j < n → f' (dst + j) = f (src + j)) ∧ ∀ q, (q < dst ∨ dst + n ≤ q) → f' q = f q
theorem cp_0 (f : Nat → Int32) (src dst : Nat) : cp_I f f src dst 0 := ⟨fun j hj => absurd hj (by omega), fun _ _ => rfl⟩
theorem cp_s {f f' : Nat → Int32} {src dst n : Nat} (hd : src + n < dst ∨ dst ≤ src) (H : cp_I f f' src dst n) : cp_I f (upd f' (dst + n) (f' (src + n))) src dst (n + 1) := by
  refine ⟨fun j hj => ?_, fun q hq => ?_⟩
  · by_cases e : j = n
    · rw [e, pk_us]; exact H.2 _ (by omega)
    · rw [pk_un (by omega)]; exact H.1 j (by omega)
  · rw [pk_un (by omega)]; exact H.2 q (by omega)
theorem cx_38s {post : SX → Prop} {J : _} {x1 x2 x3 : Int32} {l l' i n : Nat} (hi : i < 6) : ∀ u : SX, (∀ Q : SX → Prop, (∀ u', wX_copyTable_38 post J x1 x2 x3 (nI l) (nI l') n (nI (i + 1)) (gx_active u') (gx_outPlace u') (gx_outHeader u') (gx_freeNode u') (gx_freeCount u') (gx_keptDiagram u') (gx_depth u') (gx_got u') (gx_stamp u') (gx_links u') (gx_ruleCount u') (gx_matches u') (gx_actions u') (gx_changes u') (gx_states u') (gx_places u') (gx_headers u') (gx_tables u') (gx_treated u') (gx_nodes u') (gx_following u') (gx_marked u') (gx_bucket u') (gx_now u') (gx_next u') (gx_layer u') (gx_workLevel u') (gx_workOne u') (gx_workTwo u') (gx_workPhase u') (gx_workLow u') (gx_memoStamp u') (gx_memoOne u') (gx_memoTwo u') (gx_memoLevel u') (gx_memoGot u') → Q u') → wpX_copyRule Q u (nI (6 * l + i)) (nI (6 * l' + i))) → wX_copyTable_38 post J x1 x2 x3 (nI l) (nI l') (n + 1) (nI i) (gx_active u) (gx_outPlace u) (gx_outHeader u) (gx_freeNode u) (gx_freeCount u) (gx_keptDiagram u) (gx_depth u) (gx_got u) (gx_stamp u) (gx_links u) (gx_ruleCount u) (gx_matches u) (gx_actions u) (gx_changes u) (gx_states u) (gx_places u) (gx_headers u) (gx_tables u) (gx_treated u) (gx_nodes u) (gx_following u) (gx_marked u) (gx_bucket u) (gx_now u) (gx_next u) (gx_layer u) (gx_workLevel u) (gx_workOne u) (gx_workTwo u) (gx_workPhase u) (gx_workLow u) (gx_memoStamp u) (gx_memoOne u) (gx_memoTwo u) (gx_memoLevel u) (gx_memoGot u) := by
  rintro ⟨f_active, f_outPlace, f_outHeader, f_freeNode, f_freeCount, f_keptDiagram, f_depth, f_got, f_stamp, a_links, a_ruleCount, a_matches, a_actions, a_changes, a_states, a_places, a_headers, a_tables, a_treated, a_nodes, a_following, a_marked, a_bucket, a_now, a_next, a_layer, a_workLevel, a_workOne, a_workTwo, a_workPhase, a_workLow, a_memoStamp, a_memoOne, a_memoTwo, a_memoLevel, a_memoGot⟩ H
  have key : wX_copyTable_38 post J x1 x2 x3 (nI l) (nI l') (n + 1) (nI i) f_active f_outPlace f_outHeader f_freeNode f_freeCount f_keptDiagram f_depth f_got f_stamp a_links a_ruleCount a_matches a_actions a_changes a_states a_places a_headers a_tables a_treated a_nodes a_following a_marked a_bucket a_now a_next a_layer a_workLevel a_workOne a_workTwo a_workPhase a_workLow a_memoStamp a_memoOne a_memoTwo a_memoLevel a_memoGot := by
    refine br_f (nI_ge (b := 6) hi (by decide)) ?_
    rw [nb_6, nb_6]
    refine H _ ?_
    rintro ⟨f_active2, f_outPlace2, f_outHeader2, f_freeNode2, f_freeCount2, f_keptDiagram2, f_depth2, f_got2, f_stamp2, a_links2, a_ruleCount2, a_matches2, a_actions2, a_changes2, a_states2, a_places2, a_headers2, a_tables2, a_treated2, a_nodes2, a_following2, a_marked2, a_bucket2, a_now2, a_next2, a_layer2, a_workLevel2, a_workOne2, a_workTwo2, a_workPhase2, a_workLow2, a_memoStamp2, a_memoOne2, a_memoTwo2, a_memoLevel2, a_memoGot2⟩ h
    exact nm_r (nI_1 i) h
  exact key
theorem cx_38e {post : SX → Prop} {J : _} {x1 x2 x4 x5 : Int32} {s n : Nat} : ∀ u : SX, J (nI (s + 1)) (gx_active u) (gx_outPlace u) (gx_outHeader u) (gx_freeNode u) (gx_freeCount u) (gx_keptDiagram u) (gx_depth u) (gx_got u) (gx_stamp u) (gx_links u) (gx_ruleCount u) (gx_matches u) (gx_actions u) (gx_changes u) (gx_states u) (gx_places u) (gx_headers u) (gx_tables u) (gx_treated u) (gx_nodes u) (gx_following u) (gx_marked u) (gx_bucket u) (gx_now u) (gx_next u) (gx_layer u) (gx_workLevel u) (gx_workOne u) (gx_workTwo u) (gx_workPhase u) (gx_workLow u) (gx_memoStamp u) (gx_memoOne u) (gx_memoTwo u) (gx_memoLevel u) (gx_memoGot u) → wX_copyTable_38 post J x1 x2 (nI s) x4 x5 (n + 1) (nI 6) (gx_active u) (gx_outPlace u) (gx_outHeader u) (gx_freeNode u) (gx_freeCount u) (gx_keptDiagram u) (gx_depth u) (gx_got u) (gx_stamp u) (gx_links u) (gx_ruleCount u) (gx_matches u) (gx_actions u) (gx_changes u) (gx_states u) (gx_places u) (gx_headers u) (gx_tables u) (gx_treated u) (gx_nodes u) (gx_following u) (gx_marked u) (gx_bucket u) (gx_now u) (gx_next u) (gx_layer u) (gx_workLevel u) (gx_workOne u) (gx_workTwo u) (gx_workPhase u) (gx_workLow u) (gx_memoStamp u) (gx_memoOne u) (gx_memoTwo u) (gx_memoLevel u) (gx_memoGot u) := by
  intro u h
  exact br_t (by decide) (nm_r (nI_1 s) h)
theorem cx_38 {post : SX → Prop} {J : _} {f t s : Nat} (hf : f < 4) (ht : t < 4) (hft : f ≠ t) (hs : s < 5) (u : SX) (c m0 a0 h0 : Nat → Int32) (hp : ∀ m a h, cp_I m0 m (30 * f) (30 * t) (6 * (s + 1)) → cp_I a0 a (30 * f) (30 * t) (6 * (s + 1)) → cp_I h0 h (30 * f) (30 * t) (6 * (s + 1)) → J (nI (s + 1)) (gx_active (sx_rules u c m a h)) (gx_outPlace (sx_rules u c m a h)) (gx_outHeader (sx_rules u c m a h)) (gx_freeNode (sx_rules u c m a h)) (gx_freeCount (sx_rules u c m a h)) (gx_keptDiagram (sx_rules u c m a h)) (gx_depth (sx_rules u c m a h)) (gx_got (sx_rules u c m a h)) (gx_stamp (sx_rules u c m a h)) (gx_links (sx_rules u c m a h)) (gx_ruleCount (sx_rules u c m a h)) (gx_matches (sx_rules u c m a h)) (gx_actions (sx_rules u c m a h)) (gx_changes (sx_rules u c m a h)) (gx_states (sx_rules u c m a h)) (gx_places (sx_rules u c m a h)) (gx_headers (sx_rules u c m a h)) (gx_tables (sx_rules u c m a h)) (gx_treated (sx_rules u c m a h)) (gx_nodes (sx_rules u c m a h)) (gx_following (sx_rules u c m a h)) (gx_marked (sx_rules u c m a h)) (gx_bucket (sx_rules u c m a h)) (gx_now (sx_rules u c m a h)) (gx_next (sx_rules u c m a h)) (gx_layer (sx_rules u c m a h)) (gx_workLevel (sx_rules u c m a h)) (gx_workOne (sx_rules u c m a h)) (gx_workTwo (sx_rules u c m a h)) (gx_workPhase (sx_rules u c m a h)) (gx_workLow (sx_rules u c m a h)) (gx_memoStamp (sx_rules u c m a h)) (gx_memoOne (sx_rules u c m a h)) (gx_memoTwo (sx_rules u c m a h)) (gx_memoLevel (sx_rules u c m a h)) (gx_memoGot (sx_rules u c m a h))) : ∀ d i, i + d = 6 → ∀ m a h, cp_I m0 m (30 * f) (30 * t) (6 * s + i) → cp_I a0 a (30 * f) (30 * t) (6 * s + i) → cp_I h0 h (30 * f) (30 * t) (6 * s + i) → wX_copyTable_38 post J (nI f) (nI t) (nI s) (nI (5 * f + s)) (nI (5 * t + s)) (d + 1) (nI i) (gx_active (sx_rules u c m a h)) (gx_outPlace (sx_rules u c m a h)) (gx_outHeader (sx_rules u c m a h)) (gx_freeNode (sx_rules u c m a h)) (gx_freeCount (sx_rules u c m a h)) (gx_keptDiagram (sx_rules u c m a h)) (gx_depth (sx_rules u c m a h)) (gx_got (sx_rules u c m a h)) (gx_stamp (sx_rules u c m a h)) (gx_links (sx_rules u c m a h)) (gx_ruleCount (sx_rules u c m a h)) (gx_matches (sx_rules u c m a h)) (gx_actions (sx_rules u c m a h)) (gx_changes (sx_rules u c m a h)) (gx_states (sx_rules u c m a h)) (gx_places (sx_rules u c m a h)) (gx_headers (sx_rules u c m a h)) (gx_tables (sx_rules u c m a h)) (gx_treated (sx_rules u c m a h)) (gx_nodes (sx_rules u c m a h)) (gx_following (sx_rules u c m a h)) (gx_marked (sx_rules u c m a h)) (gx_bucket (sx_rules u c m a h)) (gx_now (sx_rules u c m a h)) (gx_next (sx_rules u c m a h)) (gx_layer (sx_rules u c m a h)) (gx_workLevel (sx_rules u c m a h)) (gx_workOne (sx_rules u c m a h)) (gx_workTwo (sx_rules u c m a h)) (gx_workPhase (sx_rules u c m a h)) (gx_workLow (sx_rules u c m a h)) (gx_memoStamp (sx_rules u c m a h)) (gx_memoOne (sx_rules u c m a h)) (gx_memoTwo (sx_rules u c m a h)) (gx_memoLevel (sx_rules u c m a h)) (gx_memoGot (sx_rules u c m a h)) := by
  intro d
  induction d with
  | zero =>
    intro i hi m a h k1 k2 k3
    have e : i = 6 := by omega
    subst e
    exact cx_38e _ (hp m a h k1 k2 k3)
  | succ d ih =>
    intro i hi m a h k1 k2 k3
    refine cx_38s (by omega) _ (fun Q hQ => ?_)
    refine xp_copy (f := 30 * f + (6 * s + i)) (t := 30 * t + (6 * s + i)) (by omega) (by omega) (congrArg nI (by omega)) (congrArg nI (by omega)) _ (hQ _ ?_)
    have hd : 30 * f + (6 * s + i) < 30 * t ∨ 30 * t ≤ 30 * f := by omega
    exact ih (i + 1) (by omega) _ _ _ (cp_s hd k1) (cp_s hd k2) (cp_s hd k3)
theorem cx_2s {post : SX → Prop} {f t s n : Nat} (hf : f < 4) (ht : t < 4) (hs : s < 5) : ∀ u : SX, (∃ n38, wX_copyTable_38 post (wX_copyTable_2 post (nI f) (nI t) n) (nI f) (nI t) (nI s) (nI (5 * f + s)) (nI (5 * t + s)) n38 (nI 0) (gx_active (sx_rules u (upd (gx_ruleCount u) (5 * t + s) (gx_ruleCount u (5 * f + s))) (gx_matches u) (gx_actions u) (gx_changes u))) (gx_outPlace (sx_rules u (upd (gx_ruleCount u) (5 * t + s) (gx_ruleCount u (5 * f + s))) (gx_matches u) (gx_actions u) (gx_changes u))) (gx_outHeader (sx_rules u (upd (gx_ruleCount u) (5 * t + s) (gx_ruleCount u (5 * f + s))) (gx_matches u) (gx_actions u) (gx_changes u))) (gx_freeNode (sx_rules u (upd (gx_ruleCount u) (5 * t + s) (gx_ruleCount u (5 * f + s))) (gx_matches u) (gx_actions u) (gx_changes u))) (gx_freeCount (sx_rules u (upd (gx_ruleCount u) (5 * t + s) (gx_ruleCount u (5 * f + s))) (gx_matches u) (gx_actions u) (gx_changes u))) (gx_keptDiagram (sx_rules u (upd (gx_ruleCount u) (5 * t + s) (gx_ruleCount u (5 * f + s))) (gx_matches u) (gx_actions u) (gx_changes u))) (gx_depth (sx_rules u (upd (gx_ruleCount u) (5 * t + s) (gx_ruleCount u (5 * f + s))) (gx_matches u) (gx_actions u) (gx_changes u))) (gx_got (sx_rules u (upd (gx_ruleCount u) (5 * t + s) (gx_ruleCount u (5 * f + s))) (gx_matches u) (gx_actions u) (gx_changes u))) (gx_stamp (sx_rules u (upd (gx_ruleCount u) (5 * t + s) (gx_ruleCount u (5 * f + s))) (gx_matches u) (gx_actions u) (gx_changes u))) (gx_links (sx_rules u (upd (gx_ruleCount u) (5 * t + s) (gx_ruleCount u (5 * f + s))) (gx_matches u) (gx_actions u) (gx_changes u))) (gx_ruleCount (sx_rules u (upd (gx_ruleCount u) (5 * t + s) (gx_ruleCount u (5 * f + s))) (gx_matches u) (gx_actions u) (gx_changes u))) (gx_matches (sx_rules u (upd (gx_ruleCount u) (5 * t + s) (gx_ruleCount u (5 * f + s))) (gx_matches u) (gx_actions u) (gx_changes u))) (gx_actions (sx_rules u (upd (gx_ruleCount u) (5 * t + s) (gx_ruleCount u (5 * f + s))) (gx_matches u) (gx_actions u) (gx_changes u))) (gx_changes (sx_rules u (upd (gx_ruleCount u) (5 * t + s) (gx_ruleCount u (5 * f + s))) (gx_matches u) (gx_actions u) (gx_changes u))) (gx_states (sx_rules u (upd (gx_ruleCount u) (5 * t + s) (gx_ruleCount u (5 * f + s))) (gx_matches u) (gx_actions u) (gx_changes u))) (gx_places (sx_rules u (upd (gx_ruleCount u) (5 * t + s) (gx_ruleCount u (5 * f + s))) (gx_matches u) (gx_actions u) (gx_changes u))) (gx_headers (sx_rules u (upd (gx_ruleCount u) (5 * t + s) (gx_ruleCount u (5 * f + s))) (gx_matches u) (gx_actions u) (gx_changes u))) (gx_tables (sx_rules u (upd (gx_ruleCount u) (5 * t + s) (gx_ruleCount u (5 * f + s))) (gx_matches u) (gx_actions u) (gx_changes u))) (gx_treated (sx_rules u (upd (gx_ruleCount u) (5 * t + s) (gx_ruleCount u (5 * f + s))) (gx_matches u) (gx_actions u) (gx_changes u))) (gx_nodes (sx_rules u (upd (gx_ruleCount u) (5 * t + s) (gx_ruleCount u (5 * f + s))) (gx_matches u) (gx_actions u) (gx_changes u))) (gx_following (sx_rules u (upd (gx_ruleCount u) (5 * t + s) (gx_ruleCount u (5 * f + s))) (gx_matches u) (gx_actions u) (gx_changes u))) (gx_marked (sx_rules u (upd (gx_ruleCount u) (5 * t + s) (gx_ruleCount u (5 * f + s))) (gx_matches u) (gx_actions u) (gx_changes u))) (gx_bucket (sx_rules u (upd (gx_ruleCount u) (5 * t + s) (gx_ruleCount u (5 * f + s))) (gx_matches u) (gx_actions u) (gx_changes u))) (gx_now (sx_rules u (upd (gx_ruleCount u) (5 * t + s) (gx_ruleCount u (5 * f + s))) (gx_matches u) (gx_actions u) (gx_changes u))) (gx_next (sx_rules u (upd (gx_ruleCount u) (5 * t + s) (gx_ruleCount u (5 * f + s))) (gx_matches u) (gx_actions u) (gx_changes u))) (gx_layer (sx_rules u (upd (gx_ruleCount u) (5 * t + s) (gx_ruleCount u (5 * f + s))) (gx_matches u) (gx_actions u) (gx_changes u))) (gx_workLevel (sx_rules u (upd (gx_ruleCount u) (5 * t + s) (gx_ruleCount u (5 * f + s))) (gx_matches u) (gx_actions u) (gx_changes u))) (gx_workOne (sx_rules u (upd (gx_ruleCount u) (5 * t + s) (gx_ruleCount u (5 * f + s))) (gx_matches u) (gx_actions u) (gx_changes u))) (gx_workTwo (sx_rules u (upd (gx_ruleCount u) (5 * t + s) (gx_ruleCount u (5 * f + s))) (gx_matches u) (gx_actions u) (gx_changes u))) (gx_workPhase (sx_rules u (upd (gx_ruleCount u) (5 * t + s) (gx_ruleCount u (5 * f + s))) (gx_matches u) (gx_actions u) (gx_changes u))) (gx_workLow (sx_rules u (upd (gx_ruleCount u) (5 * t + s) (gx_ruleCount u (5 * f + s))) (gx_matches u) (gx_actions u) (gx_changes u))) (gx_memoStamp (sx_rules u (upd (gx_ruleCount u) (5 * t + s) (gx_ruleCount u (5 * f + s))) (gx_matches u) (gx_actions u) (gx_changes u))) (gx_memoOne (sx_rules u (upd (gx_ruleCount u) (5 * t + s) (gx_ruleCount u (5 * f + s))) (gx_matches u) (gx_actions u) (gx_changes u))) (gx_memoTwo (sx_rules u (upd (gx_ruleCount u) (5 * t + s) (gx_ruleCount u (5 * f + s))) (gx_matches u) (gx_actions u) (gx_changes u))) (gx_memoLevel (sx_rules u (upd (gx_ruleCount u) (5 * t + s) (gx_ruleCount u (5 * f + s))) (gx_matches u) (gx_actions u) (gx_changes u))) (gx_memoGot (sx_rules u (upd (gx_ruleCount u) (5 * t + s) (gx_ruleCount u (5 * f + s))) (gx_matches u) (gx_actions u) (gx_changes u)))) → wX_copyTable_2 post (nI f) (nI t) (n + 1) (nI s) (gx_active u) (gx_outPlace u) (gx_outHeader u) (gx_freeNode u) (gx_freeCount u) (gx_keptDiagram u) (gx_depth u) (gx_got u) (gx_stamp u) (gx_links u) (gx_ruleCount u) (gx_matches u) (gx_actions u) (gx_changes u) (gx_states u) (gx_places u) (gx_headers u) (gx_tables u) (gx_treated u) (gx_nodes u) (gx_following u) (gx_marked u) (gx_bucket u) (gx_now u) (gx_next u) (gx_layer u) (gx_workLevel u) (gx_workOne u) (gx_workTwo u) (gx_workPhase u) (gx_workLow u) (gx_memoStamp u) (gx_memoOne u) (gx_memoTwo u) (gx_memoLevel u) (gx_memoGot u) := by
  rintro ⟨f_active, f_outPlace, f_outHeader, f_freeNode, f_freeCount, f_keptDiagram, f_depth, f_got, f_stamp, a_links, a_ruleCount, a_matches, a_actions, a_changes, a_states, a_places, a_headers, a_tables, a_treated, a_nodes, a_following, a_marked, a_bucket, a_now, a_next, a_layer, a_workLevel, a_workOne, a_workTwo, a_workPhase, a_workLow, a_memoStamp, a_memoOne, a_memoTwo, a_memoLevel, a_memoGot⟩ H
  have v1 : vp_in (nI (5 * f + s)) 20 := vp_in_nI (by omega) (by decide)
  have v2 : vp_in (nI (5 * t + s)) 20 := vp_in_nI (by omega) (by decide)
  have key : wX_copyTable_2 post (nI f) (nI t) (n + 1) (nI s) f_active f_outPlace f_outHeader f_freeNode f_freeCount f_keptDiagram f_depth f_got f_stamp a_links a_ruleCount a_matches a_actions a_changes a_states a_places a_headers a_tables a_treated a_nodes a_following a_marked a_bucket a_now a_next a_layer a_workLevel a_workOne a_workTwo a_workPhase a_workLow a_memoStamp a_memoOne a_memoTwo a_memoLevel a_memoGot := by
    refine br_f (nI_ge (b := 5) hs (by decide)) ?_
    unfold wpX_listOf
    rw [nb_5m, nb_5m]
    dsimp only
    rw [nI_clamp (show 5 * f + s < 2 ^ 31 by omega), nI_clamp (show 5 * t + s < 2 ^ 31 by omega)]
    exact And.intro v1 (And.intro v2 (nm_e H))
  exact key
theorem cx_copy {post : SX → Prop} {f t : Nat} (hf : f < 4) (ht : t < 4) (hft : f ≠ t) (u : SX) (hp : ∀ c m a h, cp_I (gx_ruleCount u) c (5 * f) (5 * t) 5 → cp_I (gx_matches u) m (30 * f) (30 * t) 30 → cp_I (gx_actions u) a (30 * f) (30 * t) 30 → cp_I (gx_changes u) h (30 * f) (30 * t) 30 → post (sx_rules u c m a h)) : wpX_copyTable post u (nI f) (nI t) := by
  have loop : ∀ d s, s + d = 5 → ∀ c m a h, cp_I (gx_ruleCount u) c (5 * f) (5 * t) s → cp_I (gx_matches u) m (30 * f) (30 * t) (6 * s) → cp_I (gx_actions u) a (30 * f) (30 * t) (6 * s) → cp_I (gx_changes u) h (30 * f) (30 * t) (6 * s) → wX_copyTable_2 post (nI f) (nI t) (d + 1) (nI s) (gx_active (sx_rules u c m a h)) (gx_outPlace (sx_rules u c m a h)) (gx_outHeader (sx_rules u c m a h)) (gx_freeNode (sx_rules u c m a h)) (gx_freeCount (sx_rules u c m a h)) (gx_keptDiagram (sx_rules u c m a h)) (gx_depth (sx_rules u c m a h)) (gx_got (sx_rules u c m a h)) (gx_stamp (sx_rules u c m a h)) (gx_links (sx_rules u c m a h)) (gx_ruleCount (sx_rules u c m a h)) (gx_matches (sx_rules u c m a h)) (gx_actions (sx_rules u c m a h)) (gx_changes (sx_rules u c m a h)) (gx_states (sx_rules u c m a h)) (gx_places (sx_rules u c m a h)) (gx_headers (sx_rules u c m a h)) (gx_tables (sx_rules u c m a h)) (gx_treated (sx_rules u c m a h)) (gx_nodes (sx_rules u c m a h)) (gx_following (sx_rules u c m a h)) (gx_marked (sx_rules u c m a h)) (gx_bucket (sx_rules u c m a h)) (gx_now (sx_rules u c m a h)) (gx_next (sx_rules u c m a h)) (gx_layer (sx_rules u c m a h)) (gx_workLevel (sx_rules u c m a h)) (gx_workOne (sx_rules u c m a h)) (gx_workTwo (sx_rules u c m a h)) (gx_workPhase (sx_rules u c m a h)) (gx_workLow (sx_rules u c m a h)) (gx_memoStamp (sx_rules u c m a h)) (gx_memoOne (sx_rules u c m a h)) (gx_memoTwo (sx_rules u c m a h)) (gx_memoLevel (sx_rules u c m a h)) (gx_memoGot (sx_rules u c m a h)) := by
    intro d
    induction d with
    | zero =>
      intro s hs c m a h k0 k1 k2 k3
      have e : s = 5 := by omega
      subst e
      exact br_t (by decide) (hp c m a h k0 k1 k2 k3)
    | succ d ih =>
      intro s hs c m a h k0 k1 k2 k3
      have hd : 5 * f + s < 5 * t ∨ 5 * t ≤ 5 * f := by omega
      refine cx_2s hf ht (by omega) _ ⟨7, ?_⟩
      exact cx_38 hf ht hft (by omega) u (upd c (5 * t + s) (c (5 * f + s))) (gx_matches u) (gx_actions u) (gx_changes u) (fun m' a' h' q1 q2 q3 => ih (s + 1) (by omega) _ _ _ _ (cp_s hd k0) q1 q2 q3) 6 0 (by omega) m a h k1 k2 k3
  have key := loop 5 0 (by omega) _ _ _ _ (cp_0 _ _ _) (cp_0 _ _ _) (cp_0 _ _ _) (cp_0 _ _ _)
  clear loop hp
  obtain ⟨f_active, f_outPlace, f_outHeader, f_freeNode, f_freeCount, f_keptDiagram, f_depth, f_got, f_stamp, a_links, a_ruleCount, a_matches, a_actions, a_changes, a_states, a_places, a_headers, a_tables, a_treated, a_nodes, a_following, a_marked, a_bucket, a_now, a_next, a_layer, a_workLevel, a_workOne, a_workTwo, a_workPhase, a_workLow, a_memoStamp, a_memoOne, a_memoTwo, a_memoLevel, a_memoGot⟩ := u
  exact Exists.intro _ key
theorem cy_35s {post : SY → Prop} {f t k n : Nat} (hf : f < 4) (ht : t < 4) (hk : k < 30) : ∀ v : SY, (∀ Q : SY → Prop, (∀ v', wY_copyTable_35 post (nI f) (nI t) n (nI (k + 1)) (gy_active v') (gy_outPlace v') (gy_outHeader v') (gy_seen v') (gy_links v') (gy_sizes v') (gy_matches v') (gy_actions v') (gy_changes v') (gy_states v') (gy_places v') (gy_headers v') (gy_tables v') (gy_treated v') → Q v') → wpY_put Q v (nI (30 * t + k)) (gy_matches v (30 * f + k)) (gy_actions v (30 * f + k)) (gy_changes v (30 * f + k))) → wY_copyTable_35 post (nI f) (nI t) (n + 1) (nI k) (gy_active v) (gy_outPlace v) (gy_outHeader v) (gy_seen v) (gy_links v) (gy_sizes v) (gy_matches v) (gy_actions v) (gy_changes v) (gy_states v) (gy_places v) (gy_headers v) (gy_tables v) (gy_treated v) := by
  rintro ⟨f_active, f_outPlace, f_outHeader, f_seen, a_links, a_sizes, a_matches, a_actions, a_changes, a_states, a_places, a_headers, a_tables, a_treated⟩ H
  have v1 : vp_in (nI (30 * f + k)) 120 := vp_in_nI (by omega) (by decide)
  have key : wY_copyTable_35 post (nI f) (nI t) (n + 1) (nI k) f_active f_outPlace f_outHeader f_seen a_links a_sizes a_matches a_actions a_changes a_states a_places a_headers a_tables a_treated := by
    refine br_f (nI_ge (b := 30) hk (by decide)) ?_
    rw [nb_30, nb_30, nI_clamp (show 30 * f + k < 2 ^ 31 by omega)]
    refine And.intro v1 (And.intro v1 (And.intro v1 (H _ ?_)))
    rintro ⟨f_active2, f_outPlace2, f_outHeader2, f_seen2, a_links2, a_sizes2, a_matches2, a_actions2, a_changes2, a_states2, a_places2, a_headers2, a_tables2, a_treated2⟩ h
    exact nm_r (nI_1 k) h
  exact key
theorem cy_35 {post : SY → Prop} {f t : Nat} (hf : f < 4) (ht : t < 4) (hft : f ≠ t) (v : SY) (c m0 a0 h0 : Nat → Int32) (hp : ∀ m a h, cp_I m0 m (30 * f) (30 * t) 30 → cp_I a0 a (30 * f) (30 * t) 30 → cp_I h0 h (30 * f) (30 * t) 30 → post (sy_rules v c m a h)) : ∀ d k, k + d = 30 → ∀ m a h, cp_I m0 m (30 * f) (30 * t) k → cp_I a0 a (30 * f) (30 * t) k → cp_I h0 h (30 * f) (30 * t) k → wY_copyTable_35 post (nI f) (nI t) (d + 1) (nI k) (gy_active (sy_rules v c m a h)) (gy_outPlace (sy_rules v c m a h)) (gy_outHeader (sy_rules v c m a h)) (gy_seen (sy_rules v c m a h)) (gy_links (sy_rules v c m a h)) (gy_sizes (sy_rules v c m a h)) (gy_matches (sy_rules v c m a h)) (gy_actions (sy_rules v c m a h)) (gy_changes (sy_rules v c m a h)) (gy_states (sy_rules v c m a h)) (gy_places (sy_rules v c m a h)) (gy_headers (sy_rules v c m a h)) (gy_tables (sy_rules v c m a h)) (gy_treated (sy_rules v c m a h)) := by
  intro d
  induction d with
  | zero =>
    intro k hk m a h k1 k2 k3
    have e : k = 30 := by omega
    subst e
    exact br_t (by decide) (hp m a h k1 k2 k3)
  | succ d ih =>
    intro k hk m a h k1 k2 k3
    refine cy_35s hf ht (by omega) _ (fun Q hQ => ?_)
    refine yp_put (by omega) rfl _ (hQ _ ?_)
    have hd : 30 * f + k < 30 * t ∨ 30 * t ≤ 30 * f := by omega
    exact ih (k + 1) (by omega) _ _ _ (cp_s hd k1) (cp_s hd k2) (cp_s hd k3)
theorem cy_2 {post : SY → Prop} {f t : Nat} (hf : f < 4) (ht : t < 4) (hft : f ≠ t) (v : SY) (c0 : Nat → Int32) (hp : ∀ c, cp_I c0 c (5 * f) (5 * t) 5 → ∃ n35, wY_copyTable_35 post (nI f) (nI t) n35 0 (gy_active v) (gy_outPlace v) (gy_outHeader v) (gy_seen v) (gy_links v) (c) (gy_matches v) (gy_actions v) (gy_changes v) (gy_states v) (gy_places v) (gy_headers v) (gy_tables v) (gy_treated v)) : ∀ d s, s + d = 5 → ∀ c, cp_I c0 c (5 * f) (5 * t) s → wY_copyTable_2 post (nI f) (nI t) (gy_active v) (gy_outPlace v) (gy_outHeader v) (gy_seen v) (d + 1) (nI s) (gy_links v) (c) (gy_matches v) (gy_actions v) (gy_changes v) (gy_states v) (gy_places v) (gy_headers v) (gy_tables v) (gy_treated v) := by
  intro d
  induction d with
  | zero =>
    intro s hs c k0
    have e : s = 5 := by omega
    subst e
    exact br_t (by decide) (hp c k0)
  | succ d ih =>
    intro s hs c k0
    have v1 : vp_in (nI (5 * f + s)) 20 := vp_in_nI (by omega) (by decide)
    have v2 : vp_in (nI (5 * t + s)) 20 := vp_in_nI (by omega) (by decide)
    have hd : 5 * f + s < 5 * t ∨ 5 * t ≤ 5 * f := by omega
    refine br_f (nI_ge (b := 5) (by omega) (by decide)) ?_
    rw [nb_5m, nb_5m, nI_clamp (show 5 * f + s < 2 ^ 31 by omega), nI_clamp (show 5 * t + s < 2 ^ 31 by omega)]
    exact And.intro v1 (And.intro v2 (nm_e (nm_r (nI_1 s) (ih (s + 1) (by omega) _ (cp_s hd k0)))))
theorem cy_copy {post : SY → Prop} {f t : Nat} (hf : f < 4) (ht : t < 4) (hft : f ≠ t) (v : SY) (hp : ∀ c m a h, cp_I (gy_sizes v) c (5 * f) (5 * t) 5 → cp_I (gy_matches v) m (30 * f) (30 * t) 30 → cp_I (gy_actions v) a (30 * f) (30 * t) 30 → cp_I (gy_changes v) h (30 * f) (30 * t) 30 → post (sy_rules v c m a h)) : wpY_copyTable post v (nI f) (nI t) := by
  have key := cy_2 (post := post) hf ht hft v (gy_sizes v) (fun c k0 => ⟨31, cy_35 hf ht hft v c (gy_matches v) (gy_actions v) (gy_changes v) (fun m a h k1 k2 k3 => hp c m a h k0 k1 k2 k3) 30 0 (by omega) _ _ _ (cp_0 _ _ _) (cp_0 _ _ _) (cp_0 _ _ _)⟩) 5 0 (by omega) _ (cp_0 _ _ _)
  clear hp
  obtain ⟨f_active, f_outPlace, f_outHeader, f_seen, a_links, a_sizes, a_matches, a_actions, a_changes, a_states, a_places, a_headers, a_tables, a_treated⟩ := v
  exact Exists.intro _ key
theorem cp_Hd {c c' m m' a a' h h' : Nat → Int32} {f t : Nat} {T : TB} (k0 : cp_I c c' (5 * f) (5 * t) 5) (k1 : cp_I m m' (30 * f) (30 * t) 30) (k2 : cp_I a a' (30 * f) (30 * t) 30) (k3 : cp_I h h' (30 * f) (30 * t) 30) (H : tb_Hd c m a h f T) : tb_Hd c' m' a' h' t T := by
  refine ⟨fun s hs => (k0.1 s hs).trans (H.1 s hs), fun j hj => ?_⟩
  have w := H.2 j hj
  exact ⟨(k1.1 j hj).trans w.1, (k2.1 j hj).trans w.2.1, (k3.1 j hj).trans w.2.2⟩
theorem cp_Ho {c c' m m' a a' h h' : Nat → Int32} {f t t' : Nat} {T : TB} (ht : t' ≠ t) (k0 : cp_I c c' (5 * f) (5 * t) 5) (k1 : cp_I m m' (30 * f) (30 * t) 30) (k2 : cp_I a a' (30 * f) (30 * t) 30) (k3 : cp_I h h' (30 * f) (30 * t) 30) (H : tb_Hd c m a h t' T) : tb_Hd c' m' a' h' t' T := by
  refine tb_Hd_cg H (fun s hs => k0.2 _ ?_) (fun j hj => ⟨k1.2 _ ?_, k2.2 _ ?_, k3.2 _ ?_⟩)
  · omega
  · omega
  · omega
  · omega
end
section
/-! isUsed, keptTables, publish, revert -/
def us_f (st tb : Nat → Int32) (x : Int32) : Nat → Nat → Bool
  | 0, _ => false
  | n + 1, i => (st i == 1 && tb i == x) || us_f st tb x n (i + 1)
theorem us_i {st tb : Nat → Int32} {x : Int32} : ∀ n i, us_f st tb x n i = true ↔ ∃ k, i ≤ k ∧ k < n + i ∧ st k = 1 ∧ tb k = x := by
  intro n
  induction n with
  | zero => intro i; exact ⟨fun h => absurd h Bool.false_ne_true, fun ⟨k, h1, h2, _⟩ => absurd h1 (by omega)⟩
  | succ n ih =>
    intro i
    show ((st i == 1 && tb i == x) || us_f st tb x n (i + 1)) = true ↔ _
    rw [Bool.or_eq_true, Bool.and_eq_true, beq_iff_eq, beq_iff_eq, ih]
    constructor
    · rintro (⟨h1, h2⟩ | ⟨k, h1, h2, h3⟩)
      · exact ⟨i, Nat.le_refl _, by omega, h1, h2⟩
      · exact ⟨k, by omega, by omega, h3⟩
    · rintro ⟨k, h1, h2, h3⟩
      by_cases e : k = i
      · rw [e] at h3; exact Or.inl h3
      · exact Or.inr ⟨k, by omega, by omega, h3⟩
theorem ux_l {post : Int32 → Prop} {x : Int32} (u : SX) : ∀ n i, n + i = 8 → post (nI (us_f (gx_states u) (gx_tables u) x n i).toNat) → wX_isUsed_2 post x (gx_active u) (gx_outPlace u) (gx_outHeader u) (gx_freeNode u) (gx_freeCount u) (gx_keptDiagram u) (gx_depth u) (gx_got u) (gx_stamp u) (gx_links u) (gx_ruleCount u) (gx_matches u) (gx_actions u) (gx_changes u) (gx_states u) (gx_places u) (gx_headers u) (gx_tables u) (gx_treated u) (gx_nodes u) (gx_following u) (gx_marked u) (gx_bucket u) (gx_now u) (gx_next u) (gx_layer u) (gx_workLevel u) (gx_workOne u) (gx_workTwo u) (gx_workPhase u) (gx_workLow u) (gx_memoStamp u) (gx_memoOne u) (gx_memoTwo u) (gx_memoLevel u) (gx_memoGot u) (n + 1) (nI i) := by
  intro n
  induction n with
  | zero =>
    intro i hi hp
    have e : i = 8 := by omega
    subst e
    exact br_t (by decide) hp
  | succ n ih =>
    intro i hi hp
    have hv : vp_in (nI i) 8 := vp_in_nI (by omega) (by decide)
    have hc : (nI i).toNatClampNeg = i := nI_clamp (by omega)
    change post (nI ((gx_states u i == 1 && gx_tables u i == x) || us_f (gx_states u) (gx_tables u) x n (i + 1)).toNat) at hp
    refine br_f (nI_ge (b := 8) (by omega) (by decide)) (And.intro hv ?_)
    rw [hc]
    by_cases h1 : gx_states u i = 1
    · refine br_t h1 (And.intro hv ?_)
      by_cases h2 : gx_tables u i = x
      · refine br_t h2 ?_
        rw [show (gx_states u i == 1) = true from by rw [beq_iff_eq]; exact h1, show (gx_tables u i == x) = true from by rw [beq_iff_eq]; exact h2] at hp
        exact hp
      · refine br_f h2 (nm_r (nI_1 i) (ih (i + 1) (by omega) ?_))
        rw [show (gx_tables u i == x) = false from by rw [beq_eq_false_iff_ne]; exact h2, Bool.and_false, Bool.false_or] at hp
        exact hp
    · refine br_f h1 (nm_r (nI_1 i) (ih (i + 1) (by omega) ?_))
      rw [show (gx_states u i == 1) = false from by rw [beq_eq_false_iff_ne]; exact h1, Bool.false_and, Bool.false_or] at hp
      exact hp
theorem ux_u {post : Int32 → Prop} {x : Int32} (u : SX) (hp : post (nI (us_f (gx_states u) (gx_tables u) x 8 0).toNat)) : wpX_isUsed post u x := by
  have key := ux_l u 8 0 (by omega) hp
  clear hp
  obtain ⟨f_active, f_outPlace, f_outHeader, f_freeNode, f_freeCount, f_keptDiagram, f_depth, f_got, f_stamp, a_links, a_ruleCount, a_matches, a_actions, a_changes, a_states, a_places, a_headers, a_tables, a_treated, a_nodes, a_following, a_marked, a_bucket, a_now, a_next, a_layer, a_workLevel, a_workOne, a_workTwo, a_workPhase, a_workLow, a_memoStamp, a_memoOne, a_memoTwo, a_memoLevel, a_memoGot⟩ := u
  exact Exists.intro _ key
theorem uy_l {post : Int32 → Prop} {x : Int32} (u : SY) : ∀ n i, n + i = 8 → post (nI (us_f (gy_states u) (gy_tables u) x n i).toNat) → wY_isUsed_2 post x (gy_active u) (gy_outPlace u) (gy_outHeader u) (gy_seen u) (gy_links u) (gy_sizes u) (gy_matches u) (gy_actions u) (gy_changes u) (gy_states u) (gy_places u) (gy_headers u) (gy_tables u) (gy_treated u) (n + 1) (nI i) := by
  intro n
  induction n with
  | zero =>
    intro i hi hp
    have e : i = 8 := by omega
    subst e
    exact br_t (by decide) hp
  | succ n ih =>
    intro i hi hp
    have hv : vp_in (nI i) 8 := vp_in_nI (by omega) (by decide)
    have hc : (nI i).toNatClampNeg = i := nI_clamp (by omega)
    change post (nI ((gy_states u i == 1 && gy_tables u i == x) || us_f (gy_states u) (gy_tables u) x n (i + 1)).toNat) at hp
    refine br_f (nI_ge (b := 8) (by omega) (by decide)) (And.intro hv ?_)
    rw [hc]
    by_cases h1 : gy_states u i = 1
    · refine br_t h1 (And.intro hv ?_)
      by_cases h2 : gy_tables u i = x
      · refine br_t h2 ?_
        rw [show (gy_states u i == 1) = true from by rw [beq_iff_eq]; exact h1, show (gy_tables u i == x) = true from by rw [beq_iff_eq]; exact h2] at hp
        exact hp
      · refine br_f h2 (nm_r (nI_1 i) (ih (i + 1) (by omega) ?_))
        rw [show (gy_tables u i == x) = false from by rw [beq_eq_false_iff_ne]; exact h2, Bool.and_false, Bool.false_or] at hp
        exact hp
    · refine br_f h1 (nm_r (nI_1 i) (ih (i + 1) (by omega) ?_))
      rw [show (gy_states u i == 1) = false from by rw [beq_eq_false_iff_ne]; exact h1, Bool.false_and, Bool.false_or] at hp
      exact hp
theorem uy_u {post : Int32 → Prop} {x : Int32} (u : SY) (hp : post (nI (us_f (gy_states u) (gy_tables u) x 8 0).toNat)) : wpY_isUsed post u x := by
  have key := uy_l u 8 0 (by omega) hp
  clear hp
  obtain ⟨f_active, f_outPlace, f_outHeader, f_seen, a_links, a_sizes, a_matches, a_actions, a_changes, a_states, a_places, a_headers, a_tables, a_treated⟩ := u
  exact Exists.intro _ key
def ux_b (u : SX) (t : Nat) : Bool := us_f (gx_states u) (gx_tables u) (nI t) 8 0
def uy_b (v : SY) (t : Nat) : Bool := us_f (gy_states v) (gy_tables v) (nI t) 8 0
def ks_f (f : Nat → Bool) : Nat → Nat → Nat
  | 0, _ => 0
  | d + 1, t => (f t).toNat + ks_f f d (t + 1)
def kp_f (U : Nat → Bool) (a t : Nat) : Bool := (t == a) || U t
theorem kx_l {post : Int32 → Prop} {a : Nat} (ha : a < 4) (u : SX) (ea : gx_active u = nI a) : ∀ d t, t + d = 4 → ∀ c, post (nI (c + ks_f (kp_f (ux_b u) a) d t)) → wX_keptTables_4 post (gx_active u) (gx_outPlace u) (gx_outHeader u) (gx_freeNode u) (gx_freeCount u) (gx_keptDiagram u) (gx_depth u) (gx_got u) (gx_stamp u) (gx_links u) (gx_ruleCount u) (gx_matches u) (gx_actions u) (gx_changes u) (gx_states u) (gx_places u) (gx_headers u) (gx_tables u) (gx_treated u) (gx_nodes u) (gx_following u) (gx_marked u) (gx_bucket u) (gx_now u) (gx_next u) (gx_layer u) (gx_workLevel u) (gx_workOne u) (gx_workTwo u) (gx_workPhase u) (gx_workLow u) (gx_memoStamp u) (gx_memoOne u) (gx_memoTwo u) (gx_memoLevel u) (gx_memoGot u) (d + 1) (nI c) (nI t) := by
  intro d
  induction d with
  | zero =>
    intro t ht c hp
    have e : t = 4 := by omega
    subst e
    exact br_t (by decide) hp
  | succ d ih =>
    intro t ht c hp
    change post (nI (c + ((kp_f (ux_b u) a t).toNat + ks_f (kp_f (ux_b u) a) d (t + 1)))) at hp
    rw [← Nat.add_assoc] at hp
    have fin : ∀ b : Bool, kp_f (ux_b u) a t = b → wX_keptTables_4 post (gx_active u) (gx_outPlace u) (gx_outHeader u) (gx_freeNode u) (gx_freeCount u) (gx_keptDiagram u) (gx_depth u) (gx_got u) (gx_stamp u) (gx_links u) (gx_ruleCount u) (gx_matches u) (gx_actions u) (gx_changes u) (gx_states u) (gx_places u) (gx_headers u) (gx_tables u) (gx_treated u) (gx_nodes u) (gx_following u) (gx_marked u) (gx_bucket u) (gx_now u) (gx_next u) (gx_layer u) (gx_workLevel u) (gx_workOne u) (gx_workTwo u) (gx_workPhase u) (gx_workLow u) (gx_memoStamp u) (gx_memoOne u) (gx_memoTwo u) (gx_memoLevel u) (gx_memoGot u) (d + 1) (nI (c + b.toNat)) (nI (t + 1)) := by
      intro b hb
      rw [hb] at hp
      exact ih (t + 1) (by omega) _ hp
    refine br_f (nI_ge (b := 4) (by omega) (by decide)) ?_
    refine pk_eq t a (fun z => ?_) (fun z => ?_) rfl ea
    · exact nm_r (nI_1 c) (nm_r (nI_1 t) (fin true (by unfold kp_f; rw [show (t == a) = true from by rw [beq_iff_eq]; exact z]; rfl)))
    · have hk : kp_f (ux_b u) a t = ux_b u t := by unfold kp_f; rw [show (t == a) = false from by rw [beq_eq_false_iff_ne]; exact z]; rfl
      refine ux_u (gx_active u, gx_outPlace u, gx_outHeader u, gx_freeNode u, gx_freeCount u, gx_keptDiagram u, gx_depth u, gx_got u, gx_stamp u, gx_links u, gx_ruleCount u, gx_matches u, gx_actions u, gx_changes u, gx_states u, gx_places u, gx_headers u, gx_tables u, gx_treated u, gx_nodes u, gx_following u, gx_marked u, gx_bucket u, gx_now u, gx_next u, gx_layer u, gx_workLevel u, gx_workOne u, gx_workTwo u, gx_workPhase u, gx_workLow u, gx_memoStamp u, gx_memoOne u, gx_memoTwo u, gx_memoLevel u, gx_memoGot u) ?_
      show ((nI (ux_b u t).toNat = 0 → _) ∧ (¬ nI (ux_b u t).toNat = 0 → _))
      cases hb : ux_b u t
      · exact br_t rfl (nm_r (nI_add c 0) (nm_r (nI_1 t) (fin false (hk.trans hb))))
      · exact br_f (by decide) (nm_r (nI_1 c) (nm_r (nI_1 t) (fin true (hk.trans hb))))
theorem kx_k {post : Int32 → Prop} {a : Nat} (ha : a < 4) (u : SX) (ea : gx_active u = nI a) (hp : post (nI (ks_f (kp_f (ux_b u) a) 3 1))) : wpX_keptTables post u := by
  have key := kx_l (post := post) ha u ea 3 1 (by omega) 0 (by rw [Nat.zero_add]; exact hp)
  clear hp
  obtain ⟨f_active, f_outPlace, f_outHeader, f_freeNode, f_freeCount, f_keptDiagram, f_depth, f_got, f_stamp, a_links, a_ruleCount, a_matches, a_actions, a_changes, a_states, a_places, a_headers, a_tables, a_treated, a_nodes, a_following, a_marked, a_bucket, a_now, a_next, a_layer, a_workLevel, a_workOne, a_workTwo, a_workPhase, a_workLow, a_memoStamp, a_memoOne, a_memoTwo, a_memoLevel, a_memoGot⟩ := u
  exact Exists.intro _ key
theorem ky_l {post : Int32 → SY → Prop} {b : Nat} (hb : b < 4) (v : SY) (eb : gy_active v = nI b) : ∀ d t, t + d = 4 → ∀ c, post (nI (c + ks_f (kp_f (uy_b v) b) d t)) v → wY_publish_73 post (gy_active v) (gy_outPlace v) (gy_outHeader v) (gy_seen v) (gy_links v) (gy_sizes v) (gy_matches v) (gy_actions v) (gy_changes v) (gy_states v) (gy_places v) (gy_headers v) (gy_tables v) (gy_treated v) (d + 1) (nI c) (nI t) := by
  intro d
  induction d with
  | zero =>
    intro t ht c hp
    have e : t = 4 := by omega
    subst e
    exact br_t (by decide) hp
  | succ d ih =>
    intro t ht c hp
    change post (nI (c + ((kp_f (uy_b v) b t).toNat + ks_f (kp_f (uy_b v) b) d (t + 1)))) v at hp
    rw [← Nat.add_assoc] at hp
    have fin : ∀ z : Bool, kp_f (uy_b v) b t = z → wY_publish_73 post (gy_active v) (gy_outPlace v) (gy_outHeader v) (gy_seen v) (gy_links v) (gy_sizes v) (gy_matches v) (gy_actions v) (gy_changes v) (gy_states v) (gy_places v) (gy_headers v) (gy_tables v) (gy_treated v) (d + 1) (nI (c + z.toNat)) (nI (t + 1)) := by
      intro z hz
      rw [hz] at hp
      exact ih (t + 1) (by omega) _ hp
    refine br_f (nI_ge (b := 4) (by omega) (by decide)) ?_
    refine pk_eq t b (fun z => ?_) (fun z => ?_) rfl eb
    · exact nm_r (nI_1 c) (nm_r (nI_1 t) (fin true (by unfold kp_f; rw [show (t == b) = true from by rw [beq_iff_eq]; exact z]; rfl)))
    · have hk : kp_f (uy_b v) b t = uy_b v t := by unfold kp_f; rw [show (t == b) = false from by rw [beq_eq_false_iff_ne]; exact z]; rfl
      refine uy_u (gy_active v, gy_outPlace v, gy_outHeader v, gy_seen v, gy_links v, gy_sizes v, gy_matches v, gy_actions v, gy_changes v, gy_states v, gy_places v, gy_headers v, gy_tables v, gy_treated v) ?_
      show ((nI (uy_b v t).toNat = 0 → _) ∧ (¬ nI (uy_b v t).toNat = 0 → _))
      cases hz : uy_b v t
      · exact br_t rfl (nm_r (nI_1 t) (fin false (hk.trans hz)))
      · exact br_f (by decide) (nm_r (nI_1 c) (nm_r (nI_1 t) (fin true (hk.trans hz))))
/-- X's publish: where the copy goes -/
theorem px_24 {post : Int32 → SX → Prop} {a : Nat} (ha : a < 4) (u : SX) (ea : gx_active u = nI a) (hn : ks_f (kp_f (ux_b u) a) 3 1 ≠ 3) (K : ∀ t, 1 ≤ t → t < 4 → t ≠ a → ux_b u t = false → wX_publish_56 post (gx_active (sx_act u (nI t))) (gx_outPlace (sx_act u (nI t))) (gx_outHeader (sx_act u (nI t))) (gx_freeNode (sx_act u (nI t))) (gx_freeCount (sx_act u (nI t))) (gx_keptDiagram (sx_act u (nI t))) (gx_depth (sx_act u (nI t))) (gx_got (sx_act u (nI t))) (gx_stamp (sx_act u (nI t))) (gx_links (sx_act u (nI t))) (gx_ruleCount (sx_act u (nI t))) (gx_matches (sx_act u (nI t))) (gx_actions (sx_act u (nI t))) (gx_changes (sx_act u (nI t))) (gx_states (sx_act u (nI t))) (gx_places (sx_act u (nI t))) (gx_headers (sx_act u (nI t))) (gx_tables (sx_act u (nI t))) (gx_treated (sx_act u (nI t))) (gx_nodes (sx_act u (nI t))) (gx_following (sx_act u (nI t))) (gx_marked (sx_act u (nI t))) (gx_bucket (sx_act u (nI t))) (gx_now (sx_act u (nI t))) (gx_next (sx_act u (nI t))) (gx_layer (sx_act u (nI t))) (gx_workLevel (sx_act u (nI t))) (gx_workOne (sx_act u (nI t))) (gx_workTwo (sx_act u (nI t))) (gx_workPhase (sx_act u (nI t))) (gx_workLow (sx_act u (nI t))) (gx_memoStamp (sx_act u (nI t))) (gx_memoOne (sx_act u (nI t))) (gx_memoTwo (sx_act u (nI t))) (gx_memoLevel (sx_act u (nI t))) (gx_memoGot (sx_act u (nI t)))) : ∀ d t, t + d = 3 → 1 ≤ t → (∀ t', 1 ≤ t' → t' < t → kp_f (ux_b u) a t' = true) → wX_publish_24 post (gx_active u) (gx_outPlace u) (gx_outHeader u) (gx_freeNode u) (gx_freeCount u) (gx_keptDiagram u) (gx_depth u) (gx_got u) (gx_stamp u) (gx_links u) (gx_ruleCount u) (gx_matches u) (gx_actions u) (gx_changes u) (gx_states u) (gx_places u) (gx_headers u) (gx_tables u) (gx_treated u) (gx_nodes u) (gx_following u) (gx_marked u) (gx_bucket u) (gx_now u) (gx_next u) (gx_layer u) (gx_workLevel u) (gx_workOne u) (gx_workTwo u) (gx_workPhase u) (gx_workLow u) (gx_memoStamp u) (gx_memoOne u) (gx_memoTwo u) (gx_memoLevel u) (gx_memoGot u) (d + 1) (nI t) := by
  intro d
  induction d with
  | zero =>
    intro t ht h1 hk
    have e : t = 3 := by omega
    subst e
    have k3 : kp_f (ux_b u) a 3 = false := by
      cases q : kp_f (ux_b u) a 3
      · rfl
      · exfalso
        apply hn
        show (kp_f (ux_b u) a 1).toNat + ((kp_f (ux_b u) a 2).toNat + ((kp_f (ux_b u) a 3).toNat + 0)) = 3
        rw [hk 1 (by omega) (by omega), hk 2 (by omega) (by omega), q]
        rfl
    unfold kp_f at k3
    rw [Bool.or_eq_false_iff, beq_eq_false_iff_ne] at k3
    exact br_t (by decide) (K 3 (by omega) (by omega) k3.1 k3.2)
  | succ d ih =>
    intro t ht h1 hk
    have next : kp_f (ux_b u) a t = true → wX_publish_24 post (gx_active u) (gx_outPlace u) (gx_outHeader u) (gx_freeNode u) (gx_freeCount u) (gx_keptDiagram u) (gx_depth u) (gx_got u) (gx_stamp u) (gx_links u) (gx_ruleCount u) (gx_matches u) (gx_actions u) (gx_changes u) (gx_states u) (gx_places u) (gx_headers u) (gx_tables u) (gx_treated u) (gx_nodes u) (gx_following u) (gx_marked u) (gx_bucket u) (gx_now u) (gx_next u) (gx_layer u) (gx_workLevel u) (gx_workOne u) (gx_workTwo u) (gx_workPhase u) (gx_workLow u) (gx_memoStamp u) (gx_memoOne u) (gx_memoTwo u) (gx_memoLevel u) (gx_memoGot u) (d + 1) (nI (t + 1)) := by
      intro q
      refine ih (t + 1) (by omega) (by omega) (fun t' h1' h2' => ?_)
      by_cases e : t' = t
      · rw [e]; exact q
      · exact hk t' h1' (by omega)
    refine br_f (nI_ge (b := 3) (by omega) (by decide)) ?_
    refine pk_eq t a (fun z => ?_) (fun z => ?_) rfl ea
    · exact nm_r (nI_1 t) (next (by unfold kp_f; rw [show (t == a) = true from by rw [beq_iff_eq]; exact z]; rfl))
    · have hk' : kp_f (ux_b u) a t = ux_b u t := by unfold kp_f; rw [show (t == a) = false from by rw [beq_eq_false_iff_ne]; exact z]; rfl
      refine ux_u (gx_active u, gx_outPlace u, gx_outHeader u, gx_freeNode u, gx_freeCount u, gx_keptDiagram u, gx_depth u, gx_got u, gx_stamp u, gx_links u, gx_ruleCount u, gx_matches u, gx_actions u, gx_changes u, gx_states u, gx_places u, gx_headers u, gx_tables u, gx_treated u, gx_nodes u, gx_following u, gx_marked u, gx_bucket u, gx_now u, gx_next u, gx_layer u, gx_workLevel u, gx_workOne u, gx_workTwo u, gx_workPhase u, gx_workLow u, gx_memoStamp u, gx_memoOne u, gx_memoTwo u, gx_memoLevel u, gx_memoGot u) ?_
      show ((nI (ux_b u t).toNat = 0 → _) ∧ (¬ nI (ux_b u t).toNat = 0 → _))
      cases hb : ux_b u t
      · exact br_t rfl (K t h1 (by omega) z hb)
      · exact br_f (by decide) (nm_r (nI_1 t) (next (hk'.trans hb)))
theorem px_w {post : Int32 → SX → Prop} {a : Nat} (h1 : 1 ≤ a) (ha : a < 4) (u : SX) (ea : gx_active u = nI a) (hB : ux_b u a = true → ks_f (kp_f (ux_b u) a) 3 1 = 3 → post (-4) u) (K : ∀ t, 1 ≤ t → t < 4 → ux_b u t = false → (ux_b u a = true → ks_f (kp_f (ux_b u) a) 3 1 ≠ 3) → wX_publish_56 post (gx_active (sx_act u (nI t))) (gx_outPlace (sx_act u (nI t))) (gx_outHeader (sx_act u (nI t))) (gx_freeNode (sx_act u (nI t))) (gx_freeCount (sx_act u (nI t))) (gx_keptDiagram (sx_act u (nI t))) (gx_depth (sx_act u (nI t))) (gx_got (sx_act u (nI t))) (gx_stamp (sx_act u (nI t))) (gx_links (sx_act u (nI t))) (gx_ruleCount (sx_act u (nI t))) (gx_matches (sx_act u (nI t))) (gx_actions (sx_act u (nI t))) (gx_changes (sx_act u (nI t))) (gx_states (sx_act u (nI t))) (gx_places (sx_act u (nI t))) (gx_headers (sx_act u (nI t))) (gx_tables (sx_act u (nI t))) (gx_treated (sx_act u (nI t))) (gx_nodes (sx_act u (nI t))) (gx_following (sx_act u (nI t))) (gx_marked (sx_act u (nI t))) (gx_bucket (sx_act u (nI t))) (gx_now (sx_act u (nI t))) (gx_next (sx_act u (nI t))) (gx_layer (sx_act u (nI t))) (gx_workLevel (sx_act u (nI t))) (gx_workOne (sx_act u (nI t))) (gx_workTwo (sx_act u (nI t))) (gx_workPhase (sx_act u (nI t))) (gx_workLow (sx_act u (nI t))) (gx_memoStamp (sx_act u (nI t))) (gx_memoOne (sx_act u (nI t))) (gx_memoTwo (sx_act u (nI t))) (gx_memoLevel (sx_act u (nI t))) (gx_memoGot (sx_act u (nI t)))) : wpX_publish post u := by
  have k1 : ∀ Q : Int32 → Prop, Q (nI (ux_b u a).toNat) → wpX_isUsed Q u (gx_active u) := fun Q hQ => ux_u u (by rw [ea]; exact hQ)
  have k2 : ∀ Q : Int32 → Prop, Q (nI (ks_f (kp_f (ux_b u) a) 3 1)) → wpX_keptTables Q u := fun Q hQ => kx_k ha u ea hQ
  have hks : ks_f (kp_f (ux_b u) a) 3 1 < 2 ^ 31 := by
    show (kp_f (ux_b u) a 1).toNat + ((kp_f (ux_b u) a 2).toNat + ((kp_f (ux_b u) a 3).toNat + 0)) < 2 ^ 31
    have := Bool.toNat_le (kp_f (ux_b u) a 1)
    have := Bool.toNat_le (kp_f (ux_b u) a 2)
    have := Bool.toNat_le (kp_f (ux_b u) a 3)
    omega
  have k3 : ux_b u a = true → ks_f (kp_f (ux_b u) a) 3 1 ≠ 3 → ∃ n24, wX_publish_24 post (gx_active u) (gx_outPlace u) (gx_outHeader u) (gx_freeNode u) (gx_freeCount u) (gx_keptDiagram u) (gx_depth u) (gx_got u) (gx_stamp u) (gx_links u) (gx_ruleCount u) (gx_matches u) (gx_actions u) (gx_changes u) (gx_states u) (gx_places u) (gx_headers u) (gx_tables u) (gx_treated u) (gx_nodes u) (gx_following u) (gx_marked u) (gx_bucket u) (gx_now u) (gx_next u) (gx_layer u) (gx_workLevel u) (gx_workOne u) (gx_workTwo u) (gx_workPhase u) (gx_workLow u) (gx_memoStamp u) (gx_memoOne u) (gx_memoTwo u) (gx_memoLevel u) (gx_memoGot u) n24 (nI 1) := fun hu hn => ⟨3, px_24 ha u ea hn (fun t t1 t2 t3 t4 => K t t1 t2 t4 (fun _ => hn)) 2 1 (by omega) (by omega) (fun t' h1' h2' => absurd h1' (by omega))⟩
  have k0 : ux_b u a = false → wX_publish_56 post (gx_active u) (gx_outPlace u) (gx_outHeader u) (gx_freeNode u) (gx_freeCount u) (gx_keptDiagram u) (gx_depth u) (gx_got u) (gx_stamp u) (gx_links u) (gx_ruleCount u) (gx_matches u) (gx_actions u) (gx_changes u) (gx_states u) (gx_places u) (gx_headers u) (gx_tables u) (gx_treated u) (gx_nodes u) (gx_following u) (gx_marked u) (gx_bucket u) (gx_now u) (gx_next u) (gx_layer u) (gx_workLevel u) (gx_workOne u) (gx_workTwo u) (gx_workPhase u) (gx_workLow u) (gx_memoStamp u) (gx_memoOne u) (gx_memoTwo u) (gx_memoLevel u) (gx_memoGot u) := by
    intro hu
    have := K a h1 ha hu (fun z => absurd (hu.symm.trans z) Bool.false_ne_true)
    have e : sx_act u (nI a) = u := by rw [← ea]; rfl
    rw [e] at this
    exact this
  clear K
  generalize ux_b u a = q at k1 hB k3 k0
  generalize ks_f (kp_f (ux_b u) a) 3 1 = z at k2 hB k3 hks
  obtain ⟨f_active, f_outPlace, f_outHeader, f_freeNode, f_freeCount, f_keptDiagram, f_depth, f_got, f_stamp, a_links, a_ruleCount, a_matches, a_actions, a_changes, a_states, a_places, a_headers, a_tables, a_treated, a_nodes, a_following, a_marked, a_bucket, a_now, a_next, a_layer, a_workLevel, a_workOne, a_workTwo, a_workPhase, a_workLow, a_memoStamp, a_memoOne, a_memoTwo, a_memoLevel, a_memoGot⟩ := u
  unfold wpX_publish
  refine k1 _ ?_
  cases q
  · exact br_t rfl (k0 rfl)
  · refine br_f (by decide) ?_
    refine k2 _ ?_
    exact pk_eq z 3 (fun y => hB rfl y) (fun y => k3 rfl y)
theorem px_56 {post : Int32 → SX → Prop} : ∀ u : SX, (∀ Q : SX → Prop, (∀ u', wpX_keptTables (fun r => post r u') u' → Q u') → wpX_copyTable Q u 0 (gx_active u)) → wX_publish_56 post (gx_active u) (gx_outPlace u) (gx_outHeader u) (gx_freeNode u) (gx_freeCount u) (gx_keptDiagram u) (gx_depth u) (gx_got u) (gx_stamp u) (gx_links u) (gx_ruleCount u) (gx_matches u) (gx_actions u) (gx_changes u) (gx_states u) (gx_places u) (gx_headers u) (gx_tables u) (gx_treated u) (gx_nodes u) (gx_following u) (gx_marked u) (gx_bucket u) (gx_now u) (gx_next u) (gx_layer u) (gx_workLevel u) (gx_workOne u) (gx_workTwo u) (gx_workPhase u) (gx_workLow u) (gx_memoStamp u) (gx_memoOne u) (gx_memoTwo u) (gx_memoLevel u) (gx_memoGot u) := by
  rintro ⟨f_active, f_outPlace, f_outHeader, f_freeNode, f_freeCount, f_keptDiagram, f_depth, f_got, f_stamp, a_links, a_ruleCount, a_matches, a_actions, a_changes, a_states, a_places, a_headers, a_tables, a_treated, a_nodes, a_following, a_marked, a_bucket, a_now, a_next, a_layer, a_workLevel, a_workOne, a_workTwo, a_workPhase, a_workLow, a_memoStamp, a_memoOne, a_memoTwo, a_memoLevel, a_memoGot⟩ H
  refine H _ ?_
  rintro ⟨f_active2, f_outPlace2, f_outHeader2, f_freeNode2, f_freeCount2, f_keptDiagram2, f_depth2, f_got2, f_stamp2, a_links2, a_ruleCount2, a_matches2, a_actions2, a_changes2, a_states2, a_places2, a_headers2, a_tables2, a_treated2, a_nodes2, a_following2, a_marked2, a_bucket2, a_now2, a_next2, a_layer2, a_workLevel2, a_workOne2, a_workTwo2, a_workPhase2, a_workLow2, a_memoStamp2, a_memoOne2, a_memoTwo2, a_memoLevel2, a_memoGot2⟩ h
  exact h
end
section
/-! publish and revert on both sides -/
theorem py_22 {post : Int32 → SY → Prop} {b : Nat} (hb : b < 4) (v : SY) (eb : gy_active v = nI b) (hB : uy_b v b = true → (∀ t, 1 ≤ t → t < 4 → kp_f (uy_b v) b t = true) → post (-4) v) (K : ∀ y, 1 ≤ y → y < 4 → uy_b v y = false → ∀ Q : SY → Prop, (∀ v' : SY, (∃ n73, wY_publish_73 post (gy_active (sy_act v' (nI y))) (gy_outPlace (sy_act v' (nI y))) (gy_outHeader (sy_act v' (nI y))) (gy_seen (sy_act v' (nI y))) (gy_links (sy_act v' (nI y))) (gy_sizes (sy_act v' (nI y))) (gy_matches (sy_act v' (nI y))) (gy_actions (sy_act v' (nI y))) (gy_changes (sy_act v' (nI y))) (gy_states (sy_act v' (nI y))) (gy_places (sy_act v' (nI y))) (gy_headers (sy_act v' (nI y))) (gy_tables (sy_act v' (nI y))) (gy_treated (sy_act v' (nI y))) n73 (nI 0) (nI 1)) → Q v') → wpY_copyTable Q v 0 (nI y)) : ∀ d t, t + d = 4 → 1 ≤ t → ∀ fr, fr < 4 → (fr ≠ 0 → uy_b v fr = false) → (fr = 0 → uy_b v b = true ∧ ∀ t', 1 ≤ t' → t' < t → kp_f (uy_b v) b t' = true) → wY_publish_22 post (gy_active v) (gy_outPlace v) (gy_outHeader v) (gy_seen v) (gy_links v) (gy_sizes v) (gy_matches v) (gy_actions v) (gy_changes v) (gy_states v) (gy_places v) (gy_headers v) (gy_tables v) (gy_treated v) (d + 1) (nI fr) (nI t) := by
  intro d
  induction d with
  | zero =>
    intro t ht h1 fr hf i1 i2
    have e : t = 4 := by omega
    subst e
    have kk : fr ≠ 0 → ∀ Q : SY → Prop, (∀ v' : SY, (∃ n73, wY_publish_73 post (gy_active (sy_act v' (nI fr))) (gy_outPlace (sy_act v' (nI fr))) (gy_outHeader (sy_act v' (nI fr))) (gy_seen (sy_act v' (nI fr))) (gy_links (sy_act v' (nI fr))) (gy_sizes (sy_act v' (nI fr))) (gy_matches (sy_act v' (nI fr))) (gy_actions (sy_act v' (nI fr))) (gy_changes (sy_act v' (nI fr))) (gy_states (sy_act v' (nI fr))) (gy_places (sy_act v' (nI fr))) (gy_headers (sy_act v' (nI fr))) (gy_tables (sy_act v' (nI fr))) (gy_treated (sy_act v' (nI fr))) n73 (nI 0) (nI 1)) → Q v') → wpY_copyTable Q v 0 (nI fr) := fun z => K fr (by omega) hf (i1 z)
    have bb : fr = 0 → post (-4) v := fun z => hB (i2 z).1 (i2 z).2
    clear K hB
    obtain ⟨f_active, f_outPlace, f_outHeader, f_seen, a_links, a_sizes, a_matches, a_actions, a_changes, a_states, a_places, a_headers, a_tables, a_treated⟩ := v
    refine br_t (by decide) (pk_eq fr 0 (fun z => bb z) (fun z => kk z _ ?_))
    rintro ⟨f_active2, f_outPlace2, f_outHeader2, f_seen2, a_links2, a_sizes2, a_matches2, a_actions2, a_changes2, a_states2, a_places2, a_headers2, a_tables2, a_treated2⟩ h
    exact h
  | succ d ih =>
    intro t ht h1 fr hf i1 i2
    have keep : kp_f (uy_b v) b t = true → wY_publish_22 post (gy_active v) (gy_outPlace v) (gy_outHeader v) (gy_seen v) (gy_links v) (gy_sizes v) (gy_matches v) (gy_actions v) (gy_changes v) (gy_states v) (gy_places v) (gy_headers v) (gy_tables v) (gy_treated v) (d + 1) (nI fr) (nI (t + 1)) := by
      intro q
      refine ih (t + 1) (by omega) (by omega) fr hf i1 (fun z => ⟨(i2 z).1, fun t' h1' h2' => ?_⟩)
      by_cases e : t' = t
      · rw [e]; exact q
      · exact (i2 z).2 t' h1' (by omega)
    refine br_f (nI_ge (b := 4) (by omega) (by decide)) ?_
    refine pk_eq t b (fun z => ?_) (fun z => ?_) rfl eb
    · exact nm_r (nI_1 t) (keep (by unfold kp_f; rw [show (t == b) = true from by rw [beq_iff_eq]; exact z]; rfl))
    · have hk' : kp_f (uy_b v) b t = uy_b v t := by unfold kp_f; rw [show (t == b) = false from by rw [beq_eq_false_iff_ne]; exact z]; rfl
      refine uy_u (gy_active v, gy_outPlace v, gy_outHeader v, gy_seen v, gy_links v, gy_sizes v, gy_matches v, gy_actions v, gy_changes v, gy_states v, gy_places v, gy_headers v, gy_tables v, gy_treated v) ?_
      show ((nI (uy_b v t).toNat = 0 → _) ∧ (¬ nI (uy_b v t).toNat = 0 → _))
      cases hz : uy_b v t
      · exact br_t rfl (nm_r (nI_1 t) (ih (t + 1) (by omega) (by omega) t (by omega) (fun _ => hz) (fun y => absurd y (by omega))))
      · exact br_f (by decide) (nm_r (nI_1 t) (keep (hk'.trans hz)))
theorem py_w {post : Int32 → SY → Prop} {b : Nat} (h1 : 1 ≤ b) (hb : b < 4) (v : SY) (eb : gy_active v = nI b) (hB : uy_b v b = true → (∀ t, 1 ≤ t → t < 4 → kp_f (uy_b v) b t = true) → post (-4) v) (K : ∀ y, 1 ≤ y → y < 4 → uy_b v y = false → ∀ Q : SY → Prop, (∀ v' : SY, (∃ n73, wY_publish_73 post (gy_active (sy_act v' (nI y))) (gy_outPlace (sy_act v' (nI y))) (gy_outHeader (sy_act v' (nI y))) (gy_seen (sy_act v' (nI y))) (gy_links (sy_act v' (nI y))) (gy_sizes (sy_act v' (nI y))) (gy_matches (sy_act v' (nI y))) (gy_actions (sy_act v' (nI y))) (gy_changes (sy_act v' (nI y))) (gy_states (sy_act v' (nI y))) (gy_places (sy_act v' (nI y))) (gy_headers (sy_act v' (nI y))) (gy_tables (sy_act v' (nI y))) (gy_treated (sy_act v' (nI y))) n73 (nI 0) (nI 1)) → Q v') → wpY_copyTable Q v 0 (nI y)) : wpY_publish post v := by
  have k0 : uy_b v b = true → ∃ n22, wY_publish_22 post (gy_active v) (gy_outPlace v) (gy_outHeader v) (gy_seen v) (gy_links v) (gy_sizes v) (gy_matches v) (gy_actions v) (gy_changes v) (gy_states v) (gy_places v) (gy_headers v) (gy_tables v) (gy_treated v) n22 (nI 0) (nI 1) := fun z => ⟨4, py_22 hb v eb hB K 3 1 (by omega) (by omega) 0 (by omega) (fun y => absurd rfl y) (fun _ => ⟨z, fun t' h1' h2' => absurd h1' (by omega)⟩)⟩
  have k1 : uy_b v b = false → ∃ n22, wY_publish_22 post (gy_active v) (gy_outPlace v) (gy_outHeader v) (gy_seen v) (gy_links v) (gy_sizes v) (gy_matches v) (gy_actions v) (gy_changes v) (gy_states v) (gy_places v) (gy_headers v) (gy_tables v) (gy_treated v) n22 (nI b) (nI 1) := fun z => by
    exact ⟨4, py_22 hb v eb hB K 3 1 (by omega) (by omega) b hb (fun _ => z) (fun y => absurd y (by omega))⟩
  have ku : ∀ Q : Int32 → Prop, Q (nI (uy_b v b).toNat) → wpY_isUsed Q v (gy_active v) := fun Q hQ => uy_u v (by rw [eb]; exact hQ)
  clear K hB
  generalize uy_b v b = q at k0 k1 ku
  obtain ⟨f_active, f_outPlace, f_outHeader, f_seen, a_links, a_sizes, a_matches, a_actions, a_changes, a_states, a_places, a_headers, a_tables, a_treated⟩ := v
  unfold wpY_publish
  refine ku _ ?_
  cases q
  · refine br_t rfl ?_
    obtain ⟨n, hn⟩ := k1 rfl
    refine ⟨n, ?_⟩
    have e : f_active = nI b := eb
    rw [← e] at hn
    exact hn
  · exact br_f (by decide) (k0 rfl)
theorem us_rel {T0 : TB} {TT : Nat → TB} {π : Nat → Nat} {a : Nat} {u : SX} {v : SY} (R : rc_R T0 TT π a u v) {t : Nat} (h1 : 1 ≤ t) (h4 : t < 4) : uy_b v (π t) = ux_b u t := by
  obtain ⟨R1, R2, R3, R4, R5⟩ := R
  rw [Bool.eq_iff_iff]
  unfold uy_b ux_b
  rw [us_i, us_i]
  have pt := R2.1 t h1 h4
  constructor
  · rintro ⟨k, _, k2, k3, k4⟩
    have ks : gx_states u k = 1 := by rw [R4.2.2.1]; exact k3
    obtain ⟨t', p, h, n, t1, t2, t3, t4, t5, t6, t7, t8⟩ := R5 k (by omega) ks
    have pt' := R2.1 t' t1 t2
    have e : π t' = π t := (nI_eq (by omega) (by omega)).mp (t7.symm.trans k4)
    have e2 := R2.2 t' t t1 t2 h1 h4 e
    exact ⟨k, by omega, k2, ks, by rw [t6, e2]⟩
  · rintro ⟨k, _, k2, k3, k4⟩
    obtain ⟨t', p, h, n, t1, t2, t3, t4, t5, t6, t7, t8⟩ := R5 k (by omega) k3
    have e : t' = t := (nI_eq (by omega) (by omega)).mp (t6.symm.trans k4)
    exact ⟨k, by omega, k2, by rw [← R4.2.2.1]; exact k3, by rw [t7, e]⟩
theorem pi_1 {π : Nat → Nat} (h : ∀ t, 1 ≤ t → t < 4 → 1 ≤ π t ∧ π t < 4) (i : ∀ s t, 1 ≤ s → s < 4 → 1 ≤ t → t < 4 → π s = π t → s = t) {P Q : Nat → Bool} (hq : ∀ t, 1 ≤ t → t < 4 → Q (π t) = P t) : ks_f Q 3 1 = ks_f P 3 1 ∧ ((∀ t, 1 ≤ t → t < 4 → Q t = true) ↔ ∀ t, 1 ≤ t → t < 4 → P t = true) := by
  have i12 : π 1 ≠ π 2 := fun e => absurd (i 1 2 (by omega) (by omega) (by omega) (by omega) e) (by decide)
  have i13 : π 1 ≠ π 3 := fun e => absurd (i 1 3 (by omega) (by omega) (by omega) (by omega) e) (by decide)
  have i23 : π 2 ≠ π 3 := fun e => absurd (i 2 3 (by omega) (by omega) (by omega) (by omega) e) (by decide)
  have r1 := h 1 (by omega) (by omega)
  have r2 := h 2 (by omega) (by omega)
  have r3 := h 3 (by omega) (by omega)
  have h1 := hq 1 (by omega) (by omega)
  have h2 := hq 2 (by omega) (by omega)
  have h3 := hq 3 (by omega) (by omega)
  have sur : ∀ y, 1 ≤ y → y < 4 → y = π 1 ∨ y = π 2 ∨ y = π 3 := by intro y y1 y2; omega
  refine ⟨?_, fun H t t1 t2 => ?_, fun H t t1 t2 => ?_⟩
  · show (Q 1).toNat + ((Q 2).toNat + ((Q 3).toNat + 0)) = (P 1).toNat + ((P 2).toNat + ((P 3).toNat + 0))
    rw [← h1, ← h2, ← h3]
    generalize hp1 : π 1 = a at *
    generalize hp2 : π 2 = b at *
    generalize hp3 : π 3 = c at *
    have ha : a = 1 ∨ a = 2 ∨ a = 3 := by omega
    have hb : b = 1 ∨ b = 2 ∨ b = 3 := by omega
    have hc : c = 1 ∨ c = 2 ∨ c = 3 := by omega
    rcases ha with e1 | e1 | e1 <;> rcases hb with e2 | e2 | e2 <;> rcases hc with e3 | e3 | e3 <;> first | (exfalso; omega) | (rw [e1, e2, e3] <;> omega)
  · rw [← hq t t1 t2]
    exact H _ (h t t1 t2).1 (h t t1 t2).2
  · rcases sur t t1 t2 with e | e | e
    · rw [e, h1]; exact H 1 (by omega) (by omega)
    · rw [e, h2]; exact H 2 (by omega) (by omega)
    · rw [e, h3]; exact H 3 (by omega) (by omega)
def pi_n (π : Nat → Nat) (x y : Nat) : Nat → Nat := fun t => if t = x then y else if π t = y then π x else π t
theorem pi_x (π : Nat → Nat) (x y : Nat) : pi_n π x y x = y := by unfold pi_n; rw [if_pos rfl]
theorem pi_o {π : Nat → Nat} {x y t : Nat} (h1 : t ≠ x) (h2 : π t ≠ y) : pi_n π x y t = π t := by unfold pi_n; rw [if_neg h1, if_neg h2]
theorem pi_ok {π : Nat → Nat} (h : ∀ t, 1 ≤ t → t < 4 → 1 ≤ π t ∧ π t < 4) (i : ∀ s t, 1 ≤ s → s < 4 → 1 ≤ t → t < 4 → π s = π t → s = t) {x y : Nat} (x1 : 1 ≤ x) (x2 : x < 4) (y1 : 1 ≤ y) (y2 : y < 4) : (∀ t, 1 ≤ t → t < 4 → 1 ≤ pi_n π x y t ∧ pi_n π x y t < 4) ∧ ∀ s t, 1 ≤ s → s < 4 → 1 ≤ t → t < 4 → pi_n π x y s = pi_n π x y t → s = t := by
  refine ⟨fun t t1 t2 => ?_, fun s t s1 s2 t1 t2 e => ?_⟩
  · unfold pi_n
    by_cases a : t = x
    · rw [if_pos a]; exact ⟨y1, y2⟩
    · rw [if_neg a]
      by_cases b : π t = y
      · rw [if_pos b]; exact h x x1 x2
      · rw [if_neg b]; exact h t t1 t2
  · unfold pi_n at e
    by_cases a : s = x
    · by_cases a' : t = x
      · omega
      · rw [if_pos a, if_neg a'] at e
        by_cases b : π t = y
        · rw [if_pos b] at e
          have := i t x t1 t2 x1 x2 (by omega)
          omega
        · rw [if_neg b] at e; omega
    · by_cases a' : t = x
      · rw [if_neg a, if_pos a'] at e
        by_cases b : π s = y
        · rw [if_pos b] at e
          have := i s x s1 s2 x1 x2 (by omega)
          omega
        · rw [if_neg b] at e; omega
      · rw [if_neg a, if_neg a'] at e
        by_cases b : π s = y
        · by_cases b' : π t = y
          · exact i s t s1 s2 t1 t2 (by omega)
          · rw [if_pos b, if_neg b'] at e
            have := i x t x1 x2 t1 t2 e
            omega
        · by_cases b' : π t = y
          · rw [if_neg b, if_pos b'] at e
            have := i s x s1 s2 x1 x2 e
            omega
          · rw [if_neg b, if_neg b'] at e
            exact i s t s1 s2 t1 t2 e
theorem us_no {st tb : Nat → Int32} {t : Nat} (h : us_f st tb (nI t) 8 0 = false) {k : Nat} (hk : k < 8) (hs : st k = 1) : tb k ≠ nI t := by
  intro e
  have := (us_i (st := st) (tb := tb) (x := nI t) 8 0).mpr ⟨k, by omega, by omega, hs, e⟩
  rw [h] at this
  exact absurd this Bool.false_ne_true
theorem rl_pub {T0 : TB} {TT : Nat → TB} {π : Nat → Nat} {a0 : Nat} {u : SX} {v : SY} (R : rc_R T0 TT π a0 u v) {x y : Nat} (x1 : 1 ≤ x) (x2 : x < 4) (y1 : 1 ≤ y) (y2 : y < 4) (hx : ux_b u x = false) (hy : uy_b v y = false) {c m a h c' m' a' h' : Nat → Int32} (k0 : cp_I (gx_ruleCount u) c (5 * 0) (5 * x) 5) (k1 : cp_I (gx_matches u) m (30 * 0) (30 * x) 30) (k2 : cp_I (gx_actions u) a (30 * 0) (30 * x) 30) (k3 : cp_I (gx_changes u) h (30 * 0) (30 * x) 30) (q0 : cp_I (gy_sizes v) c' (5 * 0) (5 * y) 5) (q1 : cp_I (gy_matches v) m' (30 * 0) (30 * y) 30) (q2 : cp_I (gy_actions v) a' (30 * 0) (30 * y) 30) (q3 : cp_I (gy_changes v) h' (30 * 0) (30 * y) 30) : rc_R T0 (fun t => if t = x then T0 else TT t) (pi_n π x y) x (sx_rules (sx_act u (nI x)) c m a h) (sy_act (sy_rules v c' m' a' h') (nI y)) := by
  obtain ⟨R1, R2, R3, R4, R5⟩ := R
  have hX : tb_Hd c m a h x T0 := cp_Hd k0 k1 k2 k3 R1.2.2.1
  have hY : tb_Hd c' m' a' h' y T0 := cp_Hd q0 q1 q2 q3 R1.2.2.2
  refine ⟨⟨R1.1, fun t => ?_, cp_Ho (by omega) k0 k1 k2 k3 R1.2.2.1, cp_Ho (by omega) q0 q1 q2 q3 R1.2.2.2⟩, pi_ok R2.1 R2.2 x1 x2 y1 y2, ⟨x1, x2, rfl, ?_, ?_, ?_⟩, R4, ?_⟩
  · show tb_Ok (if t = x then T0 else TT t)
    by_cases e : t = x
    · rw [if_pos e]; exact R1.1
    · rw [if_neg e]; exact R1.2.1 t
  · show nI y = nI (pi_n π x y x)
    rw [pi_x]
  · show tb_Hd c m a h x (if x = x then T0 else TT x)
    rw [if_pos rfl]; exact hX
  · show tb_Hd c' m' a' h' (pi_n π x y x) (if x = x then T0 else TT x)
    rw [if_pos rfl, pi_x]; exact hY
  · intro k hk hs
    obtain ⟨t, p, g, n, t1, t2, t3, t4, t5, t6, t7, t8, t9, t10, t11, t12, t13⟩ := R5 k hk hs
    have ntx : t ≠ x := fun e => us_no hx hk hs (by rw [t6, e])
    have nty : π t ≠ y := fun e => us_no hy hk (by rw [← R4.2.2.1]; exact hs) (by rw [t7, e])
    refine ⟨t, p, g, n, t1, t2, t3, t4, t5, t6, ?_, t8, t9, t10, t11, ?_, ?_⟩
    · show gy_tables v k = nI (pi_n π x y t)
      rw [pi_o ntx nty]; exact t7
    · show tb_Hd c m a h t (if t = x then T0 else TT t)
      rw [if_neg ntx]
      exact cp_Ho ntx k0 k1 k2 k3 t12
    · show tb_Hd c' m' a' h' (pi_n π x y t) (if t = x then T0 else TT t)
      rw [if_neg ntx, pi_o ntx nty]
      exact cp_Ho nty q0 q1 q2 q3 t13
theorem i_vc_publish {k : Nat} {u : SX} {v : SY} (I : i_Rel k u v) (hk : k + 5 ≤ 2560) : wpX_publish (fun r u' => wpY_publish (fun r' v' => r' = r ∧ i_Rel (k + 5) u' v') v) u := by
  have RU := i_up I
  obtain ⟨⟨T0, TT, π, a, R⟩, σ, m1, m2⟩ := I
  have R' := R
  obtain ⟨R1, R2, R3, R4, R5⟩ := R'
  obtain ⟨a1, a2, a3, a4, a5, a6⟩ := R3
  have pa := R2.1 a a1 a2
  have ur := fun t h1 h4 => us_rel R (t := t) h1 h4
  have kq : ∀ t, 1 ≤ t → t < 4 → kp_f (uy_b v) (π a) (π t) = kp_f (ux_b u) a t := by
    intro t h1 h4
    unfold kp_f
    rw [ur t h1 h4]
    by_cases e : t = a
    · rw [e]; simp
    · rw [show (t == a) = false from by rw [beq_eq_false_iff_ne]; exact e, show (π t == π a) = false from by rw [beq_eq_false_iff_ne]; exact fun z => e (R2.2 t a h1 h4 a1 a2 z)]
  have kp := pi_1 R2.1 R2.2 (P := kp_f (ux_b u) a) (Q := kp_f (uy_b v) (π a)) kq
  have k3 : ks_f (kp_f (ux_b u) a) 3 1 = 3 ↔ ∀ t, 1 ≤ t → t < 4 → kp_f (ux_b u) a t = true := by
    show (kp_f (ux_b u) a 1).toNat + ((kp_f (ux_b u) a 2).toNat + ((kp_f (ux_b u) a 3).toNat + 0)) = 3 ↔ _
    constructor
    · intro h t h1 h4
      have e : t = 1 ∨ t = 2 ∨ t = 3 := by omega
      have b1 := Bool.toNat_le (kp_f (ux_b u) a 1)
      have b2 := Bool.toNat_le (kp_f (ux_b u) a 2)
      have b3 := Bool.toNat_le (kp_f (ux_b u) a 3)
      rcases e with e | e | e
      · rw [e]; cases q : kp_f (ux_b u) a 1
        · rw [q] at h; change 0 + _ = 3 at h; omega
        · rfl
      · rw [e]; cases q : kp_f (ux_b u) a 2
        · rw [q] at h; change _ + (0 + _) = 3 at h; omega
        · rfl
      · rw [e]; cases q : kp_f (ux_b u) a 3
        · rw [q] at h; change _ + (_ + (0 + 0)) = 3 at h; omega
        · rfl
    · intro h
      rw [h 1 (by omega) (by omega), h 2 (by omega) (by omega), h 3 (by omega) (by omega)]
      rfl
  refine px_w a1 a2 u a3 ?_ ?_
  · intro hu hk3
    refine py_w pa.1 pa.2 v a4 (fun _ _ => ⟨rfl, RU⟩) ?_
    intro y y1 y2 hy
    exfalso
    have all := kp.2.mpr (k3.mp hk3) y y1 y2
    unfold kp_f at all
    rw [hy, Bool.or_false, beq_iff_eq] at all
    rw [all, ur a a1 a2, hu] at hy
    exact absurd hy (by decide)
  · intro x x1 x2 hx hn
    refine px_56 _ (fun Q hQ => ?_)
    refine cx_copy (f := 0) (by omega) x2 (by omega) (sx_act u (nI x)) (fun c m a' h c0 c1 c2 c3 => hQ _ ?_)
    refine kx_k (a := x) x2 _ rfl ?_
    refine py_w pa.1 pa.2 v a4 ?_ ?_
    · intro hu hall
      exfalso
      rw [ur a a1 a2] at hu
      exact hn hu (k3.mpr (kp.2.mp hall))
    · intro y y1 y2 hy Q' hQ'
      refine cy_copy (f := 0) (by omega) y2 (by omega) v (fun c' m' a'' h' d0 d1 d2 d3 => hQ' _ ⟨4, ?_⟩)
      have Rn := rl_pub R x1 x2 y1 y2 hx hy c0 c1 c2 c3 d0 d1 d2 d3
      refine ky_l (b := y) y2 (sy_act (sy_rules v c' m' a'' h') (nI y)) rfl 3 1 (by omega) 0 ⟨?_, ⟨⟨_, _, _, _, Rn⟩, σ, m1, by omega⟩⟩
      rw [Nat.zero_add]
      refine congrArg nI ?_
      have ur' := fun t h1 h4 => us_rel Rn (t := t) h1 h4
      have Rn' := Rn
      obtain ⟨S1, S2, S3, S4, S5⟩ := Rn'
      refine (pi_1 S2.1 S2.2 (fun t h1 h4 => ?_)).1
      have e1 := ur' t h1 h4
      unfold kp_f
      rw [e1]
      by_cases e : t = x
      · rw [e, pi_x]; simp
      · rw [show (t == x) = false from by rw [beq_eq_false_iff_ne]; exact e, show (pi_n π x y t == y) = false from by
          rw [beq_eq_false_iff_ne]
          intro z
          exact e (S2.2 t x h1 h4 x1 x2 (by rw [z, pi_x]))]
def sm_f (c : Nat → Int32) : Int32 → Nat → Nat → Int32
  | x, 0, _ => x
  | x, d + 1, s => sm_f c (x + c s) d (s + 1)
theorem rx_13 {post : Int32 → SX → Prop} (u : SX) : ∀ d s x1, s + d = 5 → post (sm_f (gx_ruleCount u) x1 d s) u → wX_revert_13 post (gx_active u) (gx_outPlace u) (gx_outHeader u) (gx_freeNode u) (gx_freeCount u) (gx_keptDiagram u) (gx_depth u) (gx_got u) (gx_stamp u) (gx_links u) (gx_ruleCount u) (gx_matches u) (gx_actions u) (gx_changes u) (gx_states u) (gx_places u) (gx_headers u) (gx_tables u) (gx_treated u) (gx_nodes u) (gx_following u) (gx_marked u) (gx_bucket u) (gx_now u) (gx_next u) (gx_layer u) (gx_workLevel u) (gx_workOne u) (gx_workTwo u) (gx_workPhase u) (gx_workLow u) (gx_memoStamp u) (gx_memoOne u) (gx_memoTwo u) (gx_memoLevel u) (gx_memoGot u) (d + 1) x1 (nI s) := by
  intro d
  induction d with
  | zero =>
    intro s x1 hs hp
    have e : s = 5 := by omega
    subst e
    exact br_t (by decide) hp
  | succ d ih =>
    intro s x1 hs hp
    refine br_f (nI_ge (b := 5) (by omega) (by decide)) (And.intro (vp_in_nI (by omega) (by decide)) ?_)
    rw [nI_clamp (by omega)]
    exact nm_e (nm_r (nI_1 s) (ih (s + 1) _ (by omega) hp))
theorem rx_w {post : Int32 → SX → Prop} : ∀ u : SX, (∀ Q : SX → Prop, (∀ u' : SX, (∃ n13, wX_revert_13 post (gx_active u') (gx_outPlace u') (gx_outHeader u') (gx_freeNode u') (gx_freeCount u') (gx_keptDiagram u') (gx_depth u') (gx_got u') (gx_stamp u') (gx_links u') (gx_ruleCount u') (gx_matches u') (gx_actions u') (gx_changes u') (gx_states u') (gx_places u') (gx_headers u') (gx_tables u') (gx_treated u') (gx_nodes u') (gx_following u') (gx_marked u') (gx_bucket u') (gx_now u') (gx_next u') (gx_layer u') (gx_workLevel u') (gx_workOne u') (gx_workTwo u') (gx_workPhase u') (gx_workLow u') (gx_memoStamp u') (gx_memoOne u') (gx_memoTwo u') (gx_memoLevel u') (gx_memoGot u') n13 0 0) → Q u') → wpX_copyTable Q u (gx_active u) 0) → wpX_revert post u := by
  rintro ⟨f_active, f_outPlace, f_outHeader, f_freeNode, f_freeCount, f_keptDiagram, f_depth, f_got, f_stamp, a_links, a_ruleCount, a_matches, a_actions, a_changes, a_states, a_places, a_headers, a_tables, a_treated, a_nodes, a_following, a_marked, a_bucket, a_now, a_next, a_layer, a_workLevel, a_workOne, a_workTwo, a_workPhase, a_workLow, a_memoStamp, a_memoOne, a_memoTwo, a_memoLevel, a_memoGot⟩ H
  unfold wpX_revert
  refine H _ ?_
  rintro ⟨f_active2, f_outPlace2, f_outHeader2, f_freeNode2, f_freeCount2, f_keptDiagram2, f_depth2, f_got2, f_stamp2, a_links2, a_ruleCount2, a_matches2, a_actions2, a_changes2, a_states2, a_places2, a_headers2, a_tables2, a_treated2, a_nodes2, a_following2, a_marked2, a_bucket2, a_now2, a_next2, a_layer2, a_workLevel2, a_workOne2, a_workTwo2, a_workPhase2, a_workLow2, a_memoStamp2, a_memoOne2, a_memoTwo2, a_memoLevel2, a_memoGot2⟩ h
  exact h
theorem ry_w {post : Int32 → SY → Prop} : ∀ v : SY, (∀ Q : SY → Prop, (∀ v' : SY, post (((((gy_sizes v' 0) + (gy_sizes v' 1)) + (gy_sizes v' 2)) + (gy_sizes v' 3)) + (gy_sizes v' 4)) v' → Q v') → wpY_copyTable Q v (gy_active v) 0) → wpY_revert post v := by
  rintro ⟨f_active, f_outPlace, f_outHeader, f_seen, a_links, a_sizes, a_matches, a_actions, a_changes, a_states, a_places, a_headers, a_tables, a_treated⟩ H
  unfold wpY_revert
  refine H _ ?_
  rintro ⟨f_active2, f_outPlace2, f_outHeader2, f_seen2, a_links2, a_sizes2, a_matches2, a_actions2, a_changes2, a_states2, a_places2, a_headers2, a_tables2, a_treated2⟩ h
  exact h
theorem i_vc_revert {k : Nat} {u : SX} {v : SY} (I : i_Rel k u v) (hk : k + 5 ≤ 2560) : wpX_revert (fun r u' => wpY_revert (fun r' v' => r' = r ∧ i_Rel (k + 5) u' v') v) u := by
  obtain ⟨⟨T0, TT, π, a, R1, R2, R3, R4, R5⟩, σ, m1, m2⟩ := I
  obtain ⟨a1, a2, a3, a4, a5, a6⟩ := R3
  have pa := R2.1 a a1 a2
  refine rx_w u (fun Q hQ => ?_)
  rw [a3]
  refine cx_copy a2 (t := 0) (by omega) (by omega) u (fun c m a' h c0 c1 c2 c3 => hQ _ ⟨6, ?_⟩)
  refine rx_13 (sx_rules u c m a' h) 5 0 0 (by omega) ?_
  refine ry_w v (fun Q' hQ' => ?_)
  rw [a4]
  refine cy_copy pa.2 (t := 0) (by omega) (by omega) v (fun c' m' a'' h' d0 d1 d2 d3 => hQ' _ ⟨?_, ?_⟩)
  · have hX := cp_Hd c0 c1 c2 c3 a5
    have hY := cp_Hd d0 d1 d2 d3 a6
    have e : ∀ s, s < 5 → c' s = c s := fun s hs => by rw [(tb_0 hY).1 s hs, (tb_0 hX).1 s hs]
    show c' 0 + c' 1 + c' 2 + c' 3 + c' 4 = 0 + c 0 + c 1 + c 2 + c 3 + c 4
    rw [e 0 (by omega), e 1 (by omega), e 2 (by omega), e 3 (by omega), e 4 (by omega), Int32.zero_add]
  · refine ⟨⟨TT a, TT, π, a, ⟨R1.2.1 a, R1.2.1, cp_Hd c0 c1 c2 c3 a5, cp_Hd d0 d1 d2 d3 a6⟩, R2, ⟨a1, a2, a3, a4, cp_Ho (by omega) c0 c1 c2 c3 a5, cp_Ho (by omega) d0 d1 d2 d3 a6⟩, R4, ?_⟩, σ, m1, by omega⟩
    intro i hi hs
    obtain ⟨t, p, g, n, t1, t2, t3, t4, t5, t6, t7, t8, t9, t10, t11, t12, t13⟩ := R5 i hi hs
    have pt := R2.1 t t1 t2
    exact ⟨t, p, g, n, t1, t2, t3, t4, t5, t6, t7, t8, t9, t10, t11, cp_Ho (by omega) c0 c1 c2 c3 t12, cp_Ho (by omega) d0 d1 d2 d3 t13⟩
end
section
/-! a hop on both sides -/
theorem xh_h {post : SX → Prop} {k t p h n : Nat} {T : TB} (hk : k < 8) (ht : t < 4) (hp : p < 20) (hh : h < 64) (hn : n < 16) (hT : tb_Ok T) (u : SX) (e1 : gx_tables u k = nI t) (e2 : gx_places u k = nI p) (e3 : gx_headers u k = nI h) (e4 : gx_treated u k = nI n) (H : tx_Hd u t T) (hl : lk_Ok (gx_links u)) (H0 : tr_o T 6 p h = none → post (sx_pk u (upd (gx_states u) k 3) (gx_places u) (gx_headers u) (gx_tables u) (gx_treated u))) (H1 : ∀ q g, tr_o T 6 p h = some (q, g) → lk_f (gx_links u) q = none → post (sx_out (sx_pk u (upd (gx_states u) k 2) (upd (gx_places u) k (nI q)) (upd (gx_headers u) k (nI g)) (gx_tables u) (gx_treated u)) (nI q) (nI g))) (H2 : ∀ q g p', tr_o T 6 p h = some (q, g) → lk_f (gx_links u) q = some p' → p' < 20 → post (sx_out (sx_pk u (upd (gx_states u) k (if n + 1 = 16 then 4 else 1)) (upd (gx_places u) k (nI p')) (upd (gx_headers u) k (nI g)) (gx_tables u) (upd (gx_treated u) k (nI (n + 1)))) (nI q) (nI g))) : wpX_hop post u (nI k) := by
  have hv : vp_in (nI k) 8 := vp_in_nI hk (by decide)
  have hc : (nI k).toNatClampNeg = k := nI_clamp (by omega)
  obtain ⟨f_active, f_outPlace, f_outHeader, f_freeNode, f_freeCount, f_keptDiagram, f_depth, f_got, f_stamp, a_links, a_ruleCount, a_matches, a_actions, a_changes, a_states, a_places, a_headers, a_tables, a_treated, a_nodes, a_following, a_marked, a_bucket, a_now, a_next, a_layer, a_workLevel, a_workOne, a_workTwo, a_workPhase, a_workLow, a_memoStamp, a_memoOne, a_memoTwo, a_memoLevel, a_memoGot⟩ := u
  have e1' : a_tables k = nI t := e1
  have e2' : a_places k = nI p := e2
  have e3' : a_headers k = nI h := e3
  have e4' : a_treated k = nI n := e4
  have H0' : tr_o T 6 p h = none → post (f_active, f_outPlace, f_outHeader, f_freeNode, f_freeCount, f_keptDiagram, f_depth, f_got, f_stamp, a_links, a_ruleCount, a_matches, a_actions, a_changes, upd a_states k 3, a_places, a_headers, a_tables, a_treated, a_nodes, a_following, a_marked, a_bucket, a_now, a_next, a_layer, a_workLevel, a_workOne, a_workTwo, a_workPhase, a_workLow, a_memoStamp, a_memoOne, a_memoTwo, a_memoLevel, a_memoGot) := H0
  have H1' : ∀ q g, tr_o T 6 p h = some (q, g) → lk_f a_links q = none → post (f_active, nI q, nI g, f_freeNode, f_freeCount, f_keptDiagram, f_depth, f_got, f_stamp, a_links, a_ruleCount, a_matches, a_actions, a_changes, upd a_states k 2, upd a_places k (nI q), upd a_headers k (nI g), a_tables, a_treated, a_nodes, a_following, a_marked, a_bucket, a_now, a_next, a_layer, a_workLevel, a_workOne, a_workTwo, a_workPhase, a_workLow, a_memoStamp, a_memoOne, a_memoTwo, a_memoLevel, a_memoGot) := H1
  have H2' : ∀ q g p', tr_o T 6 p h = some (q, g) → lk_f a_links q = some p' → p' < 20 → post (f_active, nI q, nI g, f_freeNode, f_freeCount, f_keptDiagram, f_depth, f_got, f_stamp, a_links, a_ruleCount, a_matches, a_actions, a_changes, upd a_states k (if n + 1 = 16 then 4 else 1), upd a_places k (nI p'), upd a_headers k (nI g), a_tables, upd a_treated k (nI (n + 1)), a_nodes, a_following, a_marked, a_bucket, a_now, a_next, a_layer, a_workLevel, a_workOne, a_workTwo, a_workPhase, a_workLow, a_memoStamp, a_memoOne, a_memoTwo, a_memoLevel, a_memoGot) := H2
  clear H0 H1 H2
  unfold wpX_hop
  dsimp only
  rw [hc, e1', e2', e3']
  refine And.intro hv (And.intro hv (And.intro hv ?_))
  refine xt_t ht hp hh hT (f_active, f_outPlace, f_outHeader, f_freeNode, f_freeCount, f_keptDiagram, f_depth, f_got, f_stamp, a_links, a_ruleCount, a_matches, a_actions, a_changes, a_states, a_places, a_headers, a_tables, a_treated, a_nodes, a_following, a_marked, a_bucket, a_now, a_next, a_layer, a_workLevel, a_workOne, a_workTwo, a_workPhase, a_workLow, a_memoStamp, a_memoOne, a_memoTwo, a_memoLevel, a_memoGot) H (fun e => ?_) (fun q g e => ?_)
  · exact br_t rfl (And.intro hv (nm_e (H0' e)))
  · have hq := tr_lt hT hp hh e
    have hvq : vp_in (nI q) 20 := vp_in_nI hq.1 (by decide)
    have hcq : (nI q).toNatClampNeg = q := nI_clamp (by omega)
    refine br_f (by decide) (And.intro hv (nm_e (And.intro hvq ?_)))
    rcases lk_cs hl hq.1 with ⟨l1, l2⟩ | ⟨p', hp', l1, l2⟩
    · have l2' : a_links (nI q).toNatClampNeg = -1 := by rw [hcq]; exact l2
      have hng : ¬ (0 : Int32) ≤ a_links (nI q).toNatClampNeg := by rw [l2']; decide
      exact br_f hng (And.intro hv (nm_e (And.intro hv (nm_e (H1' q g e l1)))))
    · have l2' : a_links (nI q).toNatClampNeg = nI p' := by rw [hcq]; exact l2
      have hng : (0 : Int32) ≤ a_links (nI q).toNatClampNeg := by rw [l2']; exact nI_pos' (by omega)
      refine br_t hng (And.intro hvq (And.intro hv (nm_r (congrArg (upd a_places k) l2') (And.intro hv (And.intro hv (nm_r (e' := upd a_treated k (nI (n + 1))) ?_ (And.intro hv ?_)))))))
      · show upd a_treated k (a_treated k + 1) = _
        rw [e4', nI_1]
      · have H2'' := H2' q g p' e l1 hp'
        rw [pk_us]
        refine pk_eq (n + 1) 16 (fun z => And.intro hv (nm_e ?_)) (fun z => And.intro hv (nm_e ?_))
        · rw [if_pos z] at H2''; exact H2''
        · rw [if_neg z] at H2''; exact H2''
theorem yh_h {post : SY → Prop} {k t p h n : Nat} {T : TB} (hk : k < 8) (ht : t < 4) (hp : p < 20) (hh : h < 64) (hn : n < 16) (hT : tb_Ok T) (v : SY) (e1 : gy_tables v k = nI t) (e2 : gy_places v k = nI p) (e3 : gy_headers v k = nI h) (e4 : gy_treated v k = nI n) (H : ty_Hd v t T) (hl : lk_Ok (gy_links v)) (H0 : tr_o T 6 p h = none → post (sy_out (sy_pk v (upd (gy_states v) k 3) (gy_places v) (gy_headers v) (gy_tables v) (upd (gy_treated v) k (nI (n + 1)))) (-1) (nI h))) (H1 : ∀ q g, tr_o T 6 p h = some (q, g) → lk_f (gy_links v) q = none → post (sy_out (sy_pk v (upd (gy_states v) k 2) (upd (gy_places v) k (nI q)) (upd (gy_headers v) k (nI g)) (gy_tables v) (upd (gy_treated v) k (nI (n + 1)))) (nI q) (nI g))) (H2 : ∀ q g p', tr_o T 6 p h = some (q, g) → lk_f (gy_links v) q = some p' → p' < 20 → post (sy_out (sy_pk v (if n + 1 = 16 then upd (gy_states v) k 4 else gy_states v) (upd (gy_places v) k (nI p')) (upd (gy_headers v) k (nI g)) (gy_tables v) (upd (gy_treated v) k (nI (n + 1)))) (nI q) (nI g))) : wpY_advance post v (nI k) := by
  have hv : vp_in (nI k) 8 := vp_in_nI hk (by decide)
  have hc : (nI k).toNatClampNeg = k := nI_clamp (by omega)
  obtain ⟨f_active, f_outPlace, f_outHeader, f_seen, a_links, a_sizes, a_matches, a_actions, a_changes, a_states, a_places, a_headers, a_tables, a_treated⟩ := v
  have e1' : a_tables k = nI t := e1
  have e2' : a_places k = nI p := e2
  have e3' : a_headers k = nI h := e3
  have e4' : a_treated k = nI n := e4
  have H0' : tr_o T 6 p h = none → post (f_active, -1, nI h, f_seen, a_links, a_sizes, a_matches, a_actions, a_changes, upd a_states k 3, a_places, a_headers, a_tables, upd a_treated k (nI (n + 1))) := H0
  have H1' : ∀ q g, tr_o T 6 p h = some (q, g) → lk_f a_links q = none → post (f_active, nI q, nI g, f_seen, a_links, a_sizes, a_matches, a_actions, a_changes, upd a_states k 2, upd a_places k (nI q), upd a_headers k (nI g), a_tables, upd a_treated k (nI (n + 1))) := H1
  have H2' : ∀ q g p', tr_o T 6 p h = some (q, g) → lk_f a_links q = some p' → p' < 20 → post (f_active, nI q, nI g, f_seen, a_links, a_sizes, a_matches, a_actions, a_changes, if n + 1 = 16 then upd a_states k 4 else a_states, upd a_places k (nI p'), upd a_headers k (nI g), a_tables, upd a_treated k (nI (n + 1))) := H2
  clear H0 H1 H2
  have hm1 : ¬ (0 : Int32) ≤ -1 := by decide
  have et : upd a_treated k (a_treated k + 1) = upd a_treated k (nI (n + 1)) := by rw [e4', nI_1]
  unfold wpY_advance
  dsimp only
  rw [hc, e1', e2', e3']
  refine And.intro hv (And.intro hv (And.intro hv ?_))
  refine yt_t ht hp hh hT (b := 6) ?_ (f_active, f_outPlace, f_outHeader, f_seen, a_links, a_sizes, a_matches, a_actions, a_changes, a_states, a_places, a_headers, a_tables, a_treated) H (fun e => ?_) (fun q g e => ?_)
  · intro i hi
    exact ⟨fun z => absurd z (nb_m1lt _ (by omega)), fun z => absurd z (by omega)⟩
  · refine And.intro hv (And.intro hv (nm_r (e' := upd a_treated k (nI (n + 1))) et ?_))
    exact br_f hm1 (And.intro hv (nm_e (H0' e)))
  · have hq := tr_lt hT hp hh e
    have hvq : vp_in (nI q) 20 := vp_in_nI hq.1 (by decide)
    have hcq : (nI q).toNatClampNeg = q := nI_clamp (by omega)
    refine And.intro hv (And.intro hv (nm_r (e' := upd a_treated k (nI (n + 1))) et ?_))
    refine br_t (nI_pos' (by omega)) (And.intro hv (nm_e (And.intro hvq ?_)))
    rcases lk_cs hl hq.1 with ⟨l1, l2⟩ | ⟨p', hp', l1, l2⟩
    · have l2' : a_links (nI q).toNatClampNeg = -1 := by rw [hcq]; exact l2
      have hng : ¬ (0 : Int32) ≤ a_links (nI q).toNatClampNeg := by rw [l2']; decide
      exact br_f hng (And.intro hv (nm_e (And.intro hv (nm_e (H1' q g e l1)))))
    · have l2' : a_links (nI q).toNatClampNeg = nI p' := by rw [hcq]; exact l2
      have hng : (0 : Int32) ≤ a_links (nI q).toNatClampNeg := by rw [l2']; exact nI_pos' (by omega)
      refine br_t hng (And.intro hvq (And.intro hv (nm_r (congrArg (upd a_places k) l2') (And.intro hv ?_))))
      have H2'' := H2' q g p' e l1 hp'
      rw [pk_us]
      refine pk_eq (n + 1) 16 (fun z => And.intro hv (nm_e ?_)) (fun z => ?_)
      · rw [if_pos z] at H2''; exact H2''
      · rw [if_neg z] at H2''; exact H2''
/-- packets change on both sides; tables and links do not -/
theorem rl_pk {T0 : TB} {TT : Nat → TB} {π : Nat → Nat} {a : Nat} {u : SX} {v : SY} (R : rc_R T0 TT π a u v) (st pl hd tx ty rx ry : Nat → Int32) (hP : ∀ i, i < 8 → st i = 1 → ∃ t p h n : Nat, 1 ≤ t ∧ t < 4 ∧ p < 20 ∧ h < 64 ∧ n < 16 ∧ tx i = nI t ∧ ty i = nI (π t) ∧ pl i = nI p ∧ hd i = nI h ∧ rx i = nI n ∧ ry i = nI n ∧ tx_Hd u t (TT t) ∧ ty_Hd v (π t) (TT t)) : rc_R T0 TT π a (sx_pk u st pl hd tx rx) (sy_pk v st pl hd ty ry) := by
  obtain ⟨R1, R2, R3, R4, R5⟩ := R
  exact ⟨R1, R2, R3, ⟨R4.1, R4.2.1, rfl, rfl, rfl⟩, hP⟩
theorem rc_yo {T0 : TB} {TT : Nat → TB} {π : Nat → Nat} {a : Nat} {u : SX} {v : SY} (p h : Int32) (R : rc_R T0 TT π a u v) : rc_R T0 TT π a u (sy_out v p h) := R
theorem hb_M1 (u : SX) (st pl hd tb tr : Nat → Int32) : bx_M (sx_pk u st pl hd tb tr) = bx_M u := rfl
theorem hb_M2 (u : SX) (p h : Int32) : bx_M (sx_out u p h) = bx_M u := rfl
theorem hb_st1 (u : SX) (st pl hd tb tr : Nat → Int32) : gx_states (sx_pk u st pl hd tb tr) = st := rfl
theorem hb_st2 (u : SX) (p h : Int32) : gx_states (sx_out u p h) = gx_states u := rfl
theorem hb_b {T0 : TB} {TT : Nat → TB} {π : Nat → Nat} {a : Nat} {u : SX} {v : SY} (R : rc_R T0 TT π a u v) {k : Nat} (hk : k < 8) (hs : gx_states u k = 1) : ∃ (u' : SX) (v' : SY), rc_R T0 TT π a u' v' ∧ bx_M u' = bx_M u ∧ (∀ post : SX → Prop, post u' → wpX_hop post u (nI k)) ∧ (∀ post : SY → Prop, post v' → wpY_advance post v (nI k)) ∧ ∀ i, i ≠ k → gx_states u' i = gx_states u i := by
  have R' := R
  obtain ⟨R1, R2, R3, R4, R5⟩ := R'
  obtain ⟨t, p, h, n, t1, t2, t3, t4, t5, t6, t7, t8, t9, t10, t11, t12, t13⟩ := R5 k hk hs
  obtain ⟨l1, l2, s1, p1, h1⟩ := R4
  have pt := R2.1 t t1 t2
  have hT := R1.2.1 t
  have yp : gy_places v k = nI p := by rw [← p1]; exact t8
  have yh : gy_headers v k = nI h := by rw [← h1]; exact t9
  have yl : lk_Ok (gy_links v) := by rw [← l1]; exact l2
  have old : ∀ (pl hd rx ry st : Nat → Int32) (x : Int32), ¬ x = 1 → (∀ i, i ≠ k → pl i = gx_places u i ∧ hd i = gx_headers u i ∧ rx i = gx_treated u i ∧ ry i = gy_treated v i) → ∀ i, i < 8 → upd (gx_states u) k x i = 1 → ∃ t p h n : Nat, 1 ≤ t ∧ t < 4 ∧ p < 20 ∧ h < 64 ∧ n < 16 ∧ gx_tables u i = nI t ∧ gy_tables v i = nI (π t) ∧ pl i = nI p ∧ hd i = nI h ∧ rx i = nI n ∧ ry i = nI n ∧ tx_Hd u t (TT t) ∧ ty_Hd v (π t) (TT t) := by
    intro pl hd rx ry st x hx ho i hi hst
    by_cases e : i = k
    · rw [e, pk_us] at hst; exact absurd hst hx
    · rw [pk_un e] at hst
      obtain ⟨t, p, h, n, q1, q2, q3, q4, q5, q6, q7, q8, q9, q10, q11, q12⟩ := R5 i hi hst
      obtain ⟨o1, o2, o3, o4⟩ := ho i e
      exact ⟨t, p, h, n, q1, q2, q3, q4, q5, q6, q7, o1.trans q8, o2.trans q9, o3.trans q10, o4.trans q11, q12⟩
  have ust : ∀ (x : Int32) (i : Nat), i ≠ k → upd (gx_states u) k x i = gx_states u i := fun x i e => pk_un e
  cases e : tr_o (TT t) 6 p h with
  | none =>
    refine ⟨sx_pk u (upd (gx_states u) k 3) (gx_places u) (gx_headers u) (gx_tables u) (gx_treated u), sy_out (sy_pk v (upd (gx_states u) k 3) (gx_places u) (gx_headers u) (gy_tables v) (upd (gy_treated v) k (nI (n + 1)))) (-1) (nI h), ?_, rfl, ?_, ?_, fun i hi => ust 3 i hi⟩
    · refine rc_yo _ _ (rl_pk R _ _ _ _ _ _ _ (old _ _ _ _ (fun _ => 0) 3 (by decide) (fun i hi => ⟨rfl, rfl, rfl, pk_un hi⟩)))
    · intro post hpost
      exact xh_h hk t2 t3 t4 t5 hT u t6 t8 t9 t10 t12 l2 (fun _ => hpost) (fun q g e' => absurd (e.symm.trans e') (by simp)) (fun q g p' e' => absurd (e.symm.trans e') (by simp))
    · intro post hpost
      rw [s1, p1, h1] at hpost
      exact yh_h hk pt.2 t3 t4 t5 hT v t7 yp yh t11 t13 yl (fun _ => hpost) (fun q g e' => absurd (e.symm.trans e') (by simp)) (fun q g p' e' => absurd (e.symm.trans e') (by simp))
  | some x =>
    obtain ⟨q, g⟩ := x
    have hq := tr_lt hT t3 t4 e
    have inj : ∀ q' g', tr_o (TT t) 6 p h = some (q', g') → q' = q ∧ g' = g := fun q' g' e' => by
      have := Option.some.inj (e.symm.trans e')
      exact ⟨(Prod.mk.inj this).1.symm, (Prod.mk.inj this).2.symm⟩
    cases el : lk_f (gx_links u) q with
    | none =>
      refine ⟨sx_out (sx_pk u (upd (gx_states u) k 2) (upd (gx_places u) k (nI q)) (upd (gx_headers u) k (nI g)) (gx_tables u) (gx_treated u)) (nI q) (nI g), sy_out (sy_pk v (upd (gx_states u) k 2) (upd (gx_places u) k (nI q)) (upd (gx_headers u) k (nI g)) (gy_tables v) (upd (gy_treated v) k (nI (n + 1)))) (nI q) (nI g), ?_, by rw [hb_M2, hb_M1], ?_, ?_, fun i hi => by rw [hb_st2, hb_st1]; exact ust 2 i hi⟩
      · exact rc_x _ _ (rc_yo _ _ (rl_pk R _ _ _ _ _ _ _ (old _ _ _ _ (fun _ => 0) 2 (by decide) (fun i hi => ⟨pk_un hi, pk_un hi, rfl, pk_un hi⟩))))
      · intro post hpost
        refine xh_h hk t2 t3 t4 t5 hT u t6 t8 t9 t10 t12 l2 (fun e' => absurd (e.symm.trans e') (by simp)) (fun q' g' e' _ => ?_) (fun q' g' p' e' l' => ?_)
        · obtain ⟨rfl, rfl⟩ := inj q' g' e'; exact hpost
        · obtain ⟨rfl, rfl⟩ := inj q' g' e'; exact absurd (el.symm.trans l') (by simp)
      · intro post hpost
        rw [s1, p1, h1] at hpost
        refine yh_h hk pt.2 t3 t4 t5 hT v t7 yp yh t11 t13 yl (fun e' => absurd (e.symm.trans e') (by simp)) (fun q' g' e' _ => ?_) (fun q' g' p' e' l' => ?_)
        · obtain ⟨rfl, rfl⟩ := inj q' g' e'; exact hpost
        · obtain ⟨rfl, rfl⟩ := inj q' g' e'; rw [← l1] at l'; exact absurd (el.symm.trans l') (by simp)
    | some p' =>
      have hp' := lk_lt l2 q p' hq.1 el
      by_cases z : n + 1 = 16
      · refine ⟨sx_out (sx_pk u (upd (gx_states u) k 4) (upd (gx_places u) k (nI p')) (upd (gx_headers u) k (nI g)) (gx_tables u) (upd (gx_treated u) k (nI (n + 1)))) (nI q) (nI g), sy_out (sy_pk v (upd (gx_states u) k 4) (upd (gx_places u) k (nI p')) (upd (gx_headers u) k (nI g)) (gy_tables v) (upd (gy_treated v) k (nI (n + 1)))) (nI q) (nI g), ?_, by rw [hb_M2, hb_M1], ?_, ?_, fun i hi => by rw [hb_st2, hb_st1]; exact ust 4 i hi⟩
        · exact rc_x _ _ (rc_yo _ _ (rl_pk R _ _ _ _ _ _ _ (old _ _ _ _ (fun _ => 0) 4 (by decide) (fun i hi => ⟨pk_un hi, pk_un hi, pk_un hi, pk_un hi⟩))))
        · intro post hpost
          refine xh_h hk t2 t3 t4 t5 hT u t6 t8 t9 t10 t12 l2 (fun e' => absurd (e.symm.trans e') (by simp)) (fun q' g' e' l' => ?_) (fun q' g' p2 e' l' _ => ?_)
          · obtain ⟨rfl, rfl⟩ := inj q' g' e'; exact absurd (el.symm.trans l') (by simp)
          · obtain ⟨rfl, rfl⟩ := inj q' g' e'
            rw [if_pos z, ← Option.some.inj (el.symm.trans l')]; exact hpost
        · intro post hpost
          rw [s1, p1, h1] at hpost
          refine yh_h hk pt.2 t3 t4 t5 hT v t7 yp yh t11 t13 yl (fun e' => absurd (e.symm.trans e') (by simp)) (fun q' g' e' l' => ?_) (fun q' g' p2 e' l' _ => ?_)
          · obtain ⟨rfl, rfl⟩ := inj q' g' e'; rw [← l1] at l'; exact absurd (el.symm.trans l') (by simp)
          · obtain ⟨rfl, rfl⟩ := inj q' g' e'
            rw [← l1] at l'
            rw [if_pos z, ← Option.some.inj (el.symm.trans l')]; exact hpost
      · have es : upd (gx_states u) k 1 = gx_states u := by
          funext i
          by_cases ei : i = k
          · rw [ei, pk_us]; exact hs.symm
          · rw [pk_un ei]
        refine ⟨sx_out (sx_pk u (gx_states u) (upd (gx_places u) k (nI p')) (upd (gx_headers u) k (nI g)) (gx_tables u) (upd (gx_treated u) k (nI (n + 1)))) (nI q) (nI g), sy_out (sy_pk v (gx_states u) (upd (gx_places u) k (nI p')) (upd (gx_headers u) k (nI g)) (gy_tables v) (upd (gy_treated v) k (nI (n + 1)))) (nI q) (nI g), ?_, by rw [hb_M2, hb_M1], ?_, ?_, fun i hi => by rw [hb_st2, hb_st1]⟩
        · refine rc_x _ _ (rc_yo _ _ (rl_pk R _ _ _ _ _ _ _ (fun i hi hst => ?_)))
          by_cases ei : i = k
          · subst ei
            exact ⟨t, p', g, n + 1, t1, t2, hp', hq.2, by omega, t6, t7, pk_us, pk_us, pk_us, pk_us, t12, t13⟩
          · obtain ⟨t', p2, h2, n2, q1, q2, q3, q4, q5, q6, q7, q8, q9, q10, q11, q12⟩ := R5 i hi hst
            exact ⟨t', p2, h2, n2, q1, q2, q3, q4, q5, q6, q7, (pk_un ei).trans q8, (pk_un ei).trans q9, (pk_un ei).trans q10, (pk_un ei).trans q11, q12⟩
        · intro post hpost
          refine xh_h hk t2 t3 t4 t5 hT u t6 t8 t9 t10 t12 l2 (fun e' => absurd (e.symm.trans e') (by simp)) (fun q' g' e' l' => ?_) (fun q' g' p2 e' l' _ => ?_)
          · obtain ⟨rfl, rfl⟩ := inj q' g' e'; exact absurd (el.symm.trans l') (by simp)
          · obtain ⟨rfl, rfl⟩ := inj q' g' e'
            rw [if_neg z, ← Option.some.inj (el.symm.trans l'), es]; exact hpost
        · intro post hpost
          rw [s1, p1, h1] at hpost
          refine yh_h hk pt.2 t3 t4 t5 hT v t7 yp yh t11 t13 yl (fun e' => absurd (e.symm.trans e') (by simp)) (fun q' g' e' l' => ?_) (fun q' g' p2 e' l' _ => ?_)
          · obtain ⟨rfl, rfl⟩ := inj q' g' e'; rw [← l1] at l'; exact absurd (el.symm.trans l') (by simp)
          · obtain ⟨rfl, rfl⟩ := inj q' g' e'
            rw [← l1] at l'
            rw [if_neg z, ← Option.some.inj (el.symm.trans l')]; exact hpost
end
section
/-! send, tick, end -/
theorem fl_l {post : Int32 → Prop} (v : SY) : ∀ d k, k + d = 8 → ∀ c, post (nI (c + ks_f (fun i => gy_states v i == 1) d k)) → wY_inFlight_4 post (gy_active v) (gy_outPlace v) (gy_outHeader v) (gy_seen v) (gy_links v) (gy_sizes v) (gy_matches v) (gy_actions v) (gy_changes v) (gy_states v) (gy_places v) (gy_headers v) (gy_tables v) (gy_treated v) (d + 1) (nI c) (nI k) := by
  intro d
  induction d with
  | zero =>
    intro k hk c hp
    have e : k = 8 := by omega
    subst e
    exact br_t (by decide) hp
  | succ d ih =>
    intro k hk c hp
    change post (nI (c + ((gy_states v k == 1).toNat + ks_f (fun i => gy_states v i == 1) d (k + 1)))) at hp
    rw [← Nat.add_assoc] at hp
    have hv : vp_in (nI k) 8 := vp_in_nI (by omega) (by decide)
    refine br_f (nI_ge (b := 8) (by omega) (by decide)) (And.intro hv ?_)
    rw [nI_clamp (by omega)]
    refine br_c (fun z => nm_r (nI_1 c) (nm_r (nI_1 k) ?_)) (fun z => nm_r (nI_1 k) ?_)
    · rw [show (gy_states v k == 1) = true from by rw [beq_iff_eq]; exact z] at hp
      exact ih (k + 1) (by omega) _ hp
    · rw [show (gy_states v k == 1) = false from by rw [beq_eq_false_iff_ne]; exact z] at hp
      exact ih (k + 1) (by omega) _ hp
theorem fl_w {post : Int32 → Prop} (v : SY) (hp : post (nI (ks_f (fun i => gy_states v i == 1) 8 0))) : wpY_inFlight post v := by
  have key := fl_l (post := post) v 8 0 (by omega) 0 (by rw [Nat.zero_add]; exact hp)
  clear hp
  obtain ⟨f_active, f_outPlace, f_outHeader, f_seen, a_links, a_sizes, a_matches, a_actions, a_changes, a_states, a_places, a_headers, a_tables, a_treated⟩ := v
  exact Exists.intro _ key
theorem ks_le (f : Nat → Bool) : ∀ d t, ks_f f d t ≤ d := by
  intro d
  induction d with
  | zero => intro t; exact Nat.le_refl _
  | succ d ih =>
    intro t
    show (f t).toNat + ks_f f d (t + 1) ≤ d + 1
    have := Bool.toNat_le (f t)
    have := ih (t + 1)
    omega
theorem ks_all (f : Nat → Bool) : ∀ d t, ks_f f d t = d ↔ ∀ i, t ≤ i → i < t + d → f i = true := by
  intro d
  induction d with
  | zero => intro t; exact ⟨fun _ i h1 h2 => absurd h1 (by omega), fun _ => rfl⟩
  | succ d ih =>
    intro t
    show (f t).toNat + ks_f f d (t + 1) = d + 1 ↔ _
    have h1 := Bool.toNat_le (f t)
    have h2 := ks_le f d (t + 1)
    constructor
    · intro h i i1 i2
      have e1 : ks_f f d (t + 1) = d := by omega
      by_cases e : i = t
      · rw [e]
        cases q : f t
        · rw [q] at h; change 0 + _ = _ at h; omega
        · rfl
      · exact (ih (t + 1)).mp e1 i (by omega) (by omega)
    · intro h
      rw [h t (Nat.le_refl _) (by omega), (ih (t + 1)).mpr (fun i i1 i2 => h i (by omega) (by omega))]
      show 1 + d = d + 1
      omega
/-- the first packet that is free, or none -/
theorem sx_30 {post : Int32 → SX → Prop} {x1 x2 : Int32} (u : SX) (H0 : (∀ i, i < 8 → gx_states u i = 1) → post (-3) u) (H1 : ∀ k, k < 8 → (∀ i, i < k → gx_states u i = 1) → ¬ gx_states u k = 1 → post (nI k) (sx_pk u (upd (gx_states u) k 1) (upd (gx_places u) k x1) (upd (gx_headers u) k x2) (upd (gx_tables u) k (gx_active u)) (upd (gx_treated u) k 0))) : ∀ d k, k + d = 8 → (∀ i, i < k → gx_states u i = 1) → wX_send_30 post x1 x2 (gx_active u) (gx_outPlace u) (gx_outHeader u) (gx_freeNode u) (gx_freeCount u) (gx_keptDiagram u) (gx_depth u) (gx_got u) (gx_stamp u) (gx_links u) (gx_ruleCount u) (gx_matches u) (gx_actions u) (gx_changes u) (gx_states u) (gx_places u) (gx_headers u) (gx_tables u) (gx_treated u) (gx_nodes u) (gx_following u) (gx_marked u) (gx_bucket u) (gx_now u) (gx_next u) (gx_layer u) (gx_workLevel u) (gx_workOne u) (gx_workTwo u) (gx_workPhase u) (gx_workLow u) (gx_memoStamp u) (gx_memoOne u) (gx_memoTwo u) (gx_memoLevel u) (gx_memoGot u) (d + 1) (nI k) := by
  intro d
  induction d with
  | zero =>
    intro k hk ha
    have e : k = 8 := by omega
    subst e
    exact br_t (by decide) (H0 ha)
  | succ d ih =>
    intro k hk ha
    have hv : vp_in (nI k) 8 := vp_in_nI (by omega) (by decide)
    refine br_f (nI_ge (b := 8) (by omega) (by decide)) (And.intro hv ?_)
    rw [nI_clamp (by omega)]
    refine br_c (fun z => nm_r (nI_1 k) (ih (k + 1) (by omega) (fun i hi => ?_))) (fun z => ?_)
    · by_cases e : i = k
      · rw [e]; exact z
      · exact ha i (by omega)
    · exact And.intro hv (nm_e (And.intro hv (nm_e (And.intro hv (nm_e (And.intro hv (nm_e (And.intro hv (nm_e (H1 k (by omega) ha z))))))))))
theorem sy_44 {post : Int32 → SY → Prop} {x1 x2 : Int32} (v : SY) {k0 : Nat} (hk0 : k0 < 8) (h0 : ¬ gy_states v k0 = 1) (H1 : ∀ k, k < 8 → (∀ i, i < k → gy_states v i = 1) → ¬ gy_states v k = 1 → post (nI k) (sy_pk v (upd (gy_states v) k 1) (upd (gy_places v) k x1) (upd (gy_headers v) k x2) (upd (gy_tables v) k (gy_active v)) (upd (gy_treated v) k 0))) : ∀ d k, k + d = k0 → (∀ i, i < k → gy_states v i = 1) → wY_send_44 post x1 x2 (gy_active v) (gy_outPlace v) (gy_outHeader v) (gy_seen v) (gy_links v) (gy_sizes v) (gy_matches v) (gy_actions v) (gy_changes v) (gy_states v) (gy_places v) (gy_headers v) (gy_tables v) (gy_treated v) (d + 1) (nI k) := by
  intro d
  induction d with
  | zero =>
    intro k hk ha
    have e : k = k0 := by omega
    subst e
    have hv : vp_in (nI k) 8 := vp_in_nI (by omega) (by decide)
    refine And.intro hv ?_
    rw [nI_clamp (by omega)]
    refine br_f h0 ?_
    exact And.intro hv (nm_e (And.intro hv (nm_e (And.intro hv (nm_e (And.intro hv (nm_e (And.intro hv (nm_e (H1 k hk0 ha h0))))))))))
  | succ d ih =>
    intro k hk ha
    have hv : vp_in (nI k) 8 := vp_in_nI (by omega) (by decide)
    refine And.intro hv ?_
    rw [nI_clamp (by omega)]
    refine br_c (fun z => nm_r (nI_1 k) (ih (k + 1) (by omega) (fun i hi => ?_))) (fun z => ?_)
    · by_cases e : i = k
      · rw [e]; exact z
      · exact ha i (by omega)
    · exact And.intro hv (nm_e (And.intro hv (nm_e (And.intro hv (nm_e (And.intro hv (nm_e (And.intro hv (nm_e (H1 k (by omega) ha z))))))))))
theorem sx_b {post : Int32 → SX → Prop} {x y : Int32} (h : bd_o 20 x ∨ ∃ p, p < 20 ∧ x = nI p ∧ bd_o 64 y) : ∀ u : SX, post (-1) u → wpX_send post u x y := by
  rintro ⟨f_active, f_outPlace, f_outHeader, f_freeNode, f_freeCount, f_keptDiagram, f_depth, f_got, f_stamp, a_links, a_ruleCount, a_matches, a_actions, a_changes, a_states, a_places, a_headers, a_tables, a_treated, a_nodes, a_following, a_marked, a_bucket, a_now, a_next, a_layer, a_workLevel, a_workOne, a_workTwo, a_workPhase, a_workLow, a_memoStamp, a_memoOne, a_memoTwo, a_memoLevel, a_memoGot⟩ hp
  unfold wpX_send
  rcases h with h | ⟨p, h1, rfl, h2⟩
  · refine xP_b h ?_
    exact br_t rfl hp
  · refine xP_g h1 ?_
    refine br_f (by decide) ?_
    refine xH_b h2 ?_
    exact br_t rfl hp
theorem sx_g {post : Int32 → SX → Prop} {p h : Nat} (h1 : p < 20) (h2 : h < 64) : ∀ u : SX, (gx_links u p < 0 → ∃ n30, wX_send_30 post (nI p) (nI h) (gx_active u) (gx_outPlace u) (gx_outHeader u) (gx_freeNode u) (gx_freeCount u) (gx_keptDiagram u) (gx_depth u) (gx_got u) (gx_stamp u) (gx_links u) (gx_ruleCount u) (gx_matches u) (gx_actions u) (gx_changes u) (gx_states u) (gx_places u) (gx_headers u) (gx_tables u) (gx_treated u) (gx_nodes u) (gx_following u) (gx_marked u) (gx_bucket u) (gx_now u) (gx_next u) (gx_layer u) (gx_workLevel u) (gx_workOne u) (gx_workTwo u) (gx_workPhase u) (gx_workLow u) (gx_memoStamp u) (gx_memoOne u) (gx_memoTwo u) (gx_memoLevel u) (gx_memoGot u) n30 (nI 0)) → (¬ gx_links u p < 0 → post (-4) u) → wpX_send post u (nI p) (nI h) := by
  rintro ⟨f_active, f_outPlace, f_outHeader, f_freeNode, f_freeCount, f_keptDiagram, f_depth, f_got, f_stamp, a_links, a_ruleCount, a_matches, a_actions, a_changes, a_states, a_places, a_headers, a_tables, a_treated, a_nodes, a_following, a_marked, a_bucket, a_now, a_next, a_layer, a_workLevel, a_workOne, a_workTwo, a_workPhase, a_workLow, a_memoStamp, a_memoOne, a_memoTwo, a_memoLevel, a_memoGot⟩ k1 k2
  unfold wpX_send
  refine xP_g h1 ?_
  refine br_f (by decide) ?_
  refine xH_g h2 ?_
  refine br_f (by decide) (And.intro (vp_in_nI h1 (by decide)) ?_)
  rw [nI_clamp (by omega)]
  exact br_c k1 k2
theorem sy_b {post : Int32 → SY → Prop} {x y : Int32} (h : bd_o 20 x ∨ ∃ p, p < 20 ∧ x = nI p ∧ bd_o 64 y) : ∀ v : SY, post (-1) v → wpY_send post v x y := by
  rintro ⟨f_active, f_outPlace, f_outHeader, f_seen, a_links, a_sizes, a_matches, a_actions, a_changes, a_states, a_places, a_headers, a_tables, a_treated⟩ hp
  unfold wpY_send
  rcases h with h | ⟨p, h1, rfl, h2⟩
  · refine yP_b h _ ?_
    exact br_f (by decide) hp
  · refine yP_g h1 _ ?_
    refine br_t rfl ?_
    refine yH_b h2 _ ?_
    exact br_f (by decide) hp
theorem sy_g {post : Int32 → SY → Prop} {p h : Nat} (h1 : p < 20) (h2 : h < 64) : ∀ v : SY, (gy_links v p < 0 → (ks_f (fun i => gy_states v i == 1) 8 0 = 8 → post (-3) v) ∧ (ks_f (fun i => gy_states v i == 1) 8 0 ≠ 8 → ∃ n44, wY_send_44 post (nI p) (nI h) (gy_active v) (gy_outPlace v) (gy_outHeader v) (gy_seen v) (gy_links v) (gy_sizes v) (gy_matches v) (gy_actions v) (gy_changes v) (gy_states v) (gy_places v) (gy_headers v) (gy_tables v) (gy_treated v) n44 (nI 0))) → (¬ gy_links v p < 0 → post (-4) v) → wpY_send post v (nI p) (nI h) := by
  intro v k1 k2
  have kf : ∀ Q : Int32 → Prop, Q (nI (ks_f (fun i => gy_states v i == 1) 8 0)) → wpY_inFlight Q v := fun Q hQ => fl_w v hQ
  have hle := ks_le (fun i => gy_states v i == 1) 8 0
  generalize ks_f (fun i => gy_states v i == 1) 8 0 = c at k1 kf hle
  obtain ⟨f_active, f_outPlace, f_outHeader, f_seen, a_links, a_sizes, a_matches, a_actions, a_changes, a_states, a_places, a_headers, a_tables, a_treated⟩ := v
  unfold wpY_send
  refine yP_g h1 _ ?_
  refine br_t rfl ?_
  refine yH_g h2 _ ?_
  refine br_t rfl (And.intro (vp_in_nI h1 (by decide)) ?_)
  rw [nI_clamp (by omega)]
  refine br_c (fun z => ?_) k2
  refine kf _ ?_
  exact pk_eq c 8 (fun y => (k1 z).1 y) (fun y => (k1 z).2 y)
theorem i_vc_send {k : Nat} {u : SX} {v : SY} (I : i_Rel k u v) (hk : k + 5 ≤ 2560) (v1 : Int32) (v2 : Int32) : wpX_send (fun r u' => wpY_send (fun r' v' => r' = r ∧ i_Rel (k + 5) u' v') v v1 v2) u v1 v2 := by
  have RU := i_up I
  rcases bd_or 20 (by decide) v1 with h1 | ⟨p, hp, rfl⟩
  · exact sx_b (Or.inl h1) u (sy_b (Or.inl h1) v ⟨rfl, RU⟩)
  rcases bd_or 64 (by decide) v2 with h2 | ⟨h, hh, rfl⟩
  · exact sx_b (Or.inr ⟨p, hp, rfl, h2⟩) u (sy_b (Or.inr ⟨p, hp, rfl, h2⟩) v ⟨rfl, RU⟩)
  obtain ⟨⟨T0, TT, π, a, R⟩, σ, m1, m2⟩ := I
  have R' := R
  obtain ⟨R1, R2, R3, R4, R5⟩ := R'
  obtain ⟨l1, l2, s1, p1, e1⟩ := R4
  refine sx_g hp hh u (fun z => ⟨9, ?_⟩) (fun z => ?_)
  · have z' : gy_links v p < 0 := by rw [← l1]; exact z
    refine sx_30 u (fun hall => ?_) (fun k' hk' ha hn => ?_) 8 0 (by omega) (fun i hi => absurd hi (by omega))
    · refine sy_g hp hh v (fun _ => ⟨fun _ => ⟨rfl, RU⟩, fun y => absurd ((ks_all _ 8 0).mpr (fun i _ hi => ?_)) y⟩) (fun y => absurd z' y)
      show (gy_states v i == 1) = true
      rw [beq_iff_eq, ← s1]
      exact hall i (by omega)
    · have hn' : ¬ gy_states v k' = 1 := by rw [← s1]; exact hn
      refine sy_g hp hh v (fun _ => ⟨fun y => ?_, fun _ => ⟨k' + 1, sy_44 v hk' hn' (fun k2 hk2 ha2 hn2 => ?_) k' 0 (by omega) (fun i hi => absurd hi (by omega))⟩⟩) (fun y => absurd z' y)
      · exfalso
        have := (ks_all (fun i => gy_states v i == 1) 8 0).mp y k' (by omega) (by omega)
        rw [beq_iff_eq] at this
        exact hn' this
      · have ek : k2 = k' := by
          rcases Nat.lt_trichotomy k2 k' with q | q | q
          · exact absurd (by rw [← s1]; exact ha k2 q) hn2
          · exact q
          · exact absurd (ha2 k' q) hn'
        subst ek
        refine ⟨rfl, ⟨⟨T0, TT, π, a, ?_⟩, σ, m1, by omega⟩⟩
        rw [← s1, ← p1, ← e1]
        refine rl_pk R _ _ _ _ _ _ _ (fun i hi hst => ?_)
        by_cases ei : i = k2
        · subst ei
          exact ⟨a, p, h, 0, R3.1, R3.2.1, hp, hh, by omega, pk_us.trans R3.2.2.1, pk_us.trans R3.2.2.2.1, pk_us, pk_us, pk_us, pk_us, R3.2.2.2.2.1, R3.2.2.2.2.2⟩
        · rw [pk_un ei] at hst
          obtain ⟨t', p2, h2, n2, q1, q2, q3, q4, q5, q6, q7, q8, q9, q10, q11, q12⟩ := R5 i hi hst
          exact ⟨t', p2, h2, n2, q1, q2, q3, q4, q5, (pk_un ei).trans q6, (pk_un ei).trans q7, (pk_un ei).trans q8, (pk_un ei).trans q9, (pk_un ei).trans q10, (pk_un ei).trans q11, q12⟩
  · have z' : ¬ gy_links v p < 0 := by rw [← l1]; exact z
    exact sy_g hp hh v (fun y => absurd y z') (fun _ => ⟨rfl, RU⟩)
theorem tx_s1 {post : Int32 → SX → Prop} {n c k : Nat} (hk : k < 8) : ∀ u : SX, gx_states u k = 1 → (∀ Q : SX → Prop, (∀ u' : SX, (gx_states u' k = 1 → wX_tick_4 post n (nI (c + 1)) (nI (k + 1)) (gx_active u') (gx_outPlace u') (gx_outHeader u') (gx_freeNode u') (gx_freeCount u') (gx_keptDiagram u') (gx_depth u') (gx_got u') (gx_stamp u') (gx_links u') (gx_ruleCount u') (gx_matches u') (gx_actions u') (gx_changes u') (gx_states u') (gx_places u') (gx_headers u') (gx_tables u') (gx_treated u') (gx_nodes u') (gx_following u') (gx_marked u') (gx_bucket u') (gx_now u') (gx_next u') (gx_layer u') (gx_workLevel u') (gx_workOne u') (gx_workTwo u') (gx_workPhase u') (gx_workLow u') (gx_memoStamp u') (gx_memoOne u') (gx_memoTwo u') (gx_memoLevel u') (gx_memoGot u')) → (¬ gx_states u' k = 1 → wX_tick_4 post n (nI (c + 0)) (nI (k + 1)) (gx_active u') (gx_outPlace u') (gx_outHeader u') (gx_freeNode u') (gx_freeCount u') (gx_keptDiagram u') (gx_depth u') (gx_got u') (gx_stamp u') (gx_links u') (gx_ruleCount u') (gx_matches u') (gx_actions u') (gx_changes u') (gx_states u') (gx_places u') (gx_headers u') (gx_tables u') (gx_treated u') (gx_nodes u') (gx_following u') (gx_marked u') (gx_bucket u') (gx_now u') (gx_next u') (gx_layer u') (gx_workLevel u') (gx_workOne u') (gx_workTwo u') (gx_workPhase u') (gx_workLow u') (gx_memoStamp u') (gx_memoOne u') (gx_memoTwo u') (gx_memoLevel u') (gx_memoGot u')) → Q u') → wpX_hop Q u (nI k)) → wX_tick_4 post (n + 1) (nI c) (nI k) (gx_active u) (gx_outPlace u) (gx_outHeader u) (gx_freeNode u) (gx_freeCount u) (gx_keptDiagram u) (gx_depth u) (gx_got u) (gx_stamp u) (gx_links u) (gx_ruleCount u) (gx_matches u) (gx_actions u) (gx_changes u) (gx_states u) (gx_places u) (gx_headers u) (gx_tables u) (gx_treated u) (gx_nodes u) (gx_following u) (gx_marked u) (gx_bucket u) (gx_now u) (gx_next u) (gx_layer u) (gx_workLevel u) (gx_workOne u) (gx_workTwo u) (gx_workPhase u) (gx_workLow u) (gx_memoStamp u) (gx_memoOne u) (gx_memoTwo u) (gx_memoLevel u) (gx_memoGot u) := by
  rintro ⟨f_active, f_outPlace, f_outHeader, f_freeNode, f_freeCount, f_keptDiagram, f_depth, f_got, f_stamp, a_links, a_ruleCount, a_matches, a_actions, a_changes, a_states, a_places, a_headers, a_tables, a_treated, a_nodes, a_following, a_marked, a_bucket, a_now, a_next, a_layer, a_workLevel, a_workOne, a_workTwo, a_workPhase, a_workLow, a_memoStamp, a_memoOne, a_memoTwo, a_memoLevel, a_memoGot⟩ e H
  have hv : vp_in (nI k) 8 := vp_in_nI (by omega) (by decide)
  have e' : a_states (nI k).toNatClampNeg = 1 := by rw [nI_clamp (by omega)]; exact e
  have key : wX_tick_4 post (n + 1) (nI c) (nI k) f_active f_outPlace f_outHeader f_freeNode f_freeCount f_keptDiagram f_depth f_got f_stamp a_links a_ruleCount a_matches a_actions a_changes a_states a_places a_headers a_tables a_treated a_nodes a_following a_marked a_bucket a_now a_next a_layer a_workLevel a_workOne a_workTwo a_workPhase a_workLow a_memoStamp a_memoOne a_memoTwo a_memoLevel a_memoGot := by
    refine br_f (nI_ge (b := 8) (by omega) (by decide)) (And.intro hv (br_t e' (H _ ?_)))
    rintro ⟨f_active2, f_outPlace2, f_outHeader2, f_freeNode2, f_freeCount2, f_keptDiagram2, f_depth2, f_got2, f_stamp2, a_links2, a_ruleCount2, a_matches2, a_actions2, a_changes2, a_states2, a_places2, a_headers2, a_tables2, a_treated2, a_nodes2, a_following2, a_marked2, a_bucket2, a_now2, a_next2, a_layer2, a_workLevel2, a_workOne2, a_workTwo2, a_workPhase2, a_workLow2, a_memoStamp2, a_memoOne2, a_memoTwo2, a_memoLevel2, a_memoGot2⟩ h1 h2
    refine And.intro hv ?_
    rw [nI_clamp (by omega)]
    exact br_c (fun z => nm_r (nI_1 c) (nm_r (nI_1 k) (h1 z))) (fun z => nm_r (nI_add c 0) (nm_r (nI_1 k) (h2 z)))
  exact key
theorem tx_s0 {post : Int32 → SX → Prop} {n c k : Nat} (hk : k < 8) : ∀ u : SX, ¬ gx_states u k = 1 → wX_tick_4 post n (nI c) (nI (k + 1)) (gx_active u) (gx_outPlace u) (gx_outHeader u) (gx_freeNode u) (gx_freeCount u) (gx_keptDiagram u) (gx_depth u) (gx_got u) (gx_stamp u) (gx_links u) (gx_ruleCount u) (gx_matches u) (gx_actions u) (gx_changes u) (gx_states u) (gx_places u) (gx_headers u) (gx_tables u) (gx_treated u) (gx_nodes u) (gx_following u) (gx_marked u) (gx_bucket u) (gx_now u) (gx_next u) (gx_layer u) (gx_workLevel u) (gx_workOne u) (gx_workTwo u) (gx_workPhase u) (gx_workLow u) (gx_memoStamp u) (gx_memoOne u) (gx_memoTwo u) (gx_memoLevel u) (gx_memoGot u) → wX_tick_4 post (n + 1) (nI c) (nI k) (gx_active u) (gx_outPlace u) (gx_outHeader u) (gx_freeNode u) (gx_freeCount u) (gx_keptDiagram u) (gx_depth u) (gx_got u) (gx_stamp u) (gx_links u) (gx_ruleCount u) (gx_matches u) (gx_actions u) (gx_changes u) (gx_states u) (gx_places u) (gx_headers u) (gx_tables u) (gx_treated u) (gx_nodes u) (gx_following u) (gx_marked u) (gx_bucket u) (gx_now u) (gx_next u) (gx_layer u) (gx_workLevel u) (gx_workOne u) (gx_workTwo u) (gx_workPhase u) (gx_workLow u) (gx_memoStamp u) (gx_memoOne u) (gx_memoTwo u) (gx_memoLevel u) (gx_memoGot u) := by
  intro u e H
  have hv : vp_in (nI k) 8 := vp_in_nI (by omega) (by decide)
  refine br_f (nI_ge (b := 8) (by omega) (by decide)) (And.intro hv ?_)
  rw [nI_clamp (by omega)]
  exact br_f e (nm_r (nI_1 k) H)
theorem ty_s1 {post : Int32 → SY → Prop} {n k : Nat} (hk : k < 8) : ∀ v : SY, gy_states v k = 1 → (∀ Q : SY → Prop, (∀ v' : SY, wY_tick_2 post n (nI (k + 1)) (gy_active v') (gy_outPlace v') (gy_outHeader v') (gy_seen v') (gy_links v') (gy_sizes v') (gy_matches v') (gy_actions v') (gy_changes v') (gy_states v') (gy_places v') (gy_headers v') (gy_tables v') (gy_treated v') → Q v') → wpY_advance Q v (nI k)) → wY_tick_2 post (n + 1) (nI k) (gy_active v) (gy_outPlace v) (gy_outHeader v) (gy_seen v) (gy_links v) (gy_sizes v) (gy_matches v) (gy_actions v) (gy_changes v) (gy_states v) (gy_places v) (gy_headers v) (gy_tables v) (gy_treated v) := by
  rintro ⟨f_active, f_outPlace, f_outHeader, f_seen, a_links, a_sizes, a_matches, a_actions, a_changes, a_states, a_places, a_headers, a_tables, a_treated⟩ e H
  have hv : vp_in (nI k) 8 := vp_in_nI (by omega) (by decide)
  have e' : a_states (nI k).toNatClampNeg = 1 := by rw [nI_clamp (by omega)]; exact e
  have key : wY_tick_2 post (n + 1) (nI k) f_active f_outPlace f_outHeader f_seen a_links a_sizes a_matches a_actions a_changes a_states a_places a_headers a_tables a_treated := by
    refine br_f (nI_ge (b := 8) (by omega) (by decide)) (And.intro hv (br_t e' (H _ ?_)))
    rintro ⟨f_active2, f_outPlace2, f_outHeader2, f_seen2, a_links2, a_sizes2, a_matches2, a_actions2, a_changes2, a_states2, a_places2, a_headers2, a_tables2, a_treated2⟩ h
    exact nm_r (nI_1 k) h
  exact key
theorem ty_s0 {post : Int32 → SY → Prop} {n k : Nat} (hk : k < 8) : ∀ v : SY, ¬ gy_states v k = 1 → wY_tick_2 post n (nI (k + 1)) (gy_active v) (gy_outPlace v) (gy_outHeader v) (gy_seen v) (gy_links v) (gy_sizes v) (gy_matches v) (gy_actions v) (gy_changes v) (gy_states v) (gy_places v) (gy_headers v) (gy_tables v) (gy_treated v) → wY_tick_2 post (n + 1) (nI k) (gy_active v) (gy_outPlace v) (gy_outHeader v) (gy_seen v) (gy_links v) (gy_sizes v) (gy_matches v) (gy_actions v) (gy_changes v) (gy_states v) (gy_places v) (gy_headers v) (gy_tables v) (gy_treated v) := by
  intro v e H
  have hv : vp_in (nI k) 8 := vp_in_nI (by omega) (by decide)
  refine br_f (nI_ge (b := 8) (by omega) (by decide)) (And.intro hv ?_)
  rw [nI_clamp (by omega)]
  exact br_f e (nm_r (nI_1 k) H)
theorem ty_e {post : Int32 → SY → Prop} {n : Nat} (v : SY) (hp : post (nI (ks_f (fun i => gy_states v i == 1) 8 0)) v) : wY_tick_2 post (n + 1) (nI 8) (gy_active v) (gy_outPlace v) (gy_outHeader v) (gy_seen v) (gy_links v) (gy_sizes v) (gy_matches v) (gy_actions v) (gy_changes v) (gy_states v) (gy_places v) (gy_headers v) (gy_tables v) (gy_treated v) := by
  have k : ∀ Q : Int32 → Prop, Q (nI (ks_f (fun i => gy_states v i == 1) 8 0)) → wpY_inFlight Q v := fun Q hQ => fl_w v hQ
  generalize nI (ks_f (fun i => gy_states v i == 1) 8 0) = c at k hp
  obtain ⟨f_active, f_outPlace, f_outHeader, f_seen, a_links, a_sizes, a_matches, a_actions, a_changes, a_states, a_places, a_headers, a_tables, a_treated⟩ := v
  refine br_t (by decide) (k _ ?_)
  exact hp
theorem tk_l {T0 : TB} {TT : Nat → TB} {π : Nat → Nat} {a σ : Nat} : ∀ d k, k + d = 8 → ∀ (u : SX) (v : SY), rc_R T0 TT π a u v → ms_k u σ → ∃ (u' : SX) (v' : SY), rc_R T0 TT π a u' v' ∧ ms_k u' σ ∧ (∀ i, i < k → gx_states u' i = gx_states u i) ∧ (∀ (post : Int32 → SX → Prop) (c : Nat), post (nI (c + ks_f (fun i => gx_states u' i == 1) d k)) u' → wX_tick_4 post (d + 1) (nI c) (nI k) (gx_active u) (gx_outPlace u) (gx_outHeader u) (gx_freeNode u) (gx_freeCount u) (gx_keptDiagram u) (gx_depth u) (gx_got u) (gx_stamp u) (gx_links u) (gx_ruleCount u) (gx_matches u) (gx_actions u) (gx_changes u) (gx_states u) (gx_places u) (gx_headers u) (gx_tables u) (gx_treated u) (gx_nodes u) (gx_following u) (gx_marked u) (gx_bucket u) (gx_now u) (gx_next u) (gx_layer u) (gx_workLevel u) (gx_workOne u) (gx_workTwo u) (gx_workPhase u) (gx_workLow u) (gx_memoStamp u) (gx_memoOne u) (gx_memoTwo u) (gx_memoLevel u) (gx_memoGot u)) ∧ ∀ post : Int32 → SY → Prop, post (nI (ks_f (fun i => gy_states v' i == 1) 8 0)) v' → wY_tick_2 post (d + 1) (nI k) (gy_active v) (gy_outPlace v) (gy_outHeader v) (gy_seen v) (gy_links v) (gy_sizes v) (gy_matches v) (gy_actions v) (gy_changes v) (gy_states v) (gy_places v) (gy_headers v) (gy_tables v) (gy_treated v) := by
  intro d
  induction d with
  | zero =>
    intro k hk u v R hm
    have e : k = 8 := by omega
    subst e
    exact ⟨u, v, R, hm, fun _ _ => rfl, fun post c hp => br_t (by decide) hp, fun post hp => ty_e v hp⟩
  | succ d ih =>
    intro k hk u v R hm
    by_cases hs : gx_states u k = 1
    · obtain ⟨u1, v1, R1, M1, w1, w2, o1⟩ := hb_b R (show k < 8 by omega) hs
      obtain ⟨u', v', R', hm', q1, q2, q3⟩ := ih (k + 1) (by omega) u1 v1 R1 (ms_M M1 hm)
      have hsy : gy_states v k = 1 := by
        have := R.2.2.2.1.2.2.1
        rw [← this]; exact hs
      refine ⟨u', v', R', hm', fun i hi => (q1 i (by omega)).trans (o1 i (by omega)), fun post c hp => ?_, fun post hp => ?_⟩
      · have ek : gx_states u' k = gx_states u1 k := q1 k (by omega)
        change post (nI (c + ((gx_states u' k == 1).toNat + ks_f (fun i => gx_states u' i == 1) d (k + 1)))) u' at hp
        rw [ek, ← Nat.add_assoc] at hp
        refine tx_s1 (by omega) u hs (fun Q hQ => w1 _ (hQ u1 (fun z => ?_) (fun z => ?_)))
        · rw [show (gx_states u1 k == 1) = true from by rw [beq_iff_eq]; exact z] at hp
          exact q2 post _ hp
        · rw [show (gx_states u1 k == 1) = false from by rw [beq_eq_false_iff_ne]; exact z] at hp
          exact q2 post _ hp
      · exact ty_s1 (by omega) v hsy (fun Q hQ => w2 _ (hQ v1 (q3 post hp)))
    · obtain ⟨u', v', R', hm', q1, q2, q3⟩ := ih (k + 1) (by omega) u v R hm
      have hsy : ¬ gy_states v k = 1 := by
        have := R.2.2.2.1.2.2.1
        rw [← this]; exact hs
      refine ⟨u', v', R', hm', fun i hi => q1 i (by omega), fun post c hp => ?_, fun post hp => ty_s0 (by omega) v hsy (q3 post hp)⟩
      have ek : gx_states u' k = gx_states u k := q1 k (by omega)
      change post (nI (c + ((gx_states u' k == 1).toNat + ks_f (fun i => gx_states u' i == 1) d (k + 1)))) u' at hp
      rw [ek, show (gx_states u k == 1) = false from by rw [beq_eq_false_iff_ne]; exact hs] at hp
      change post (nI (c + (0 + ks_f (fun i => gx_states u' i == 1) d (k + 1)))) u' at hp
      rw [Nat.zero_add] at hp
      exact tx_s0 (by omega) u hs (q2 post c hp)
theorem i_vc_tick {k : Nat} {u : SX} {v : SY} (I : i_Rel k u v) (hk : k + 5 ≤ 2560) : wpX_tick (fun r u' => wpY_tick (fun r' v' => r' = r ∧ i_Rel (k + 5) u' v') v) u := by
  obtain ⟨⟨T0, TT, π, a, R⟩, σ, m1, m2⟩ := I
  obtain ⟨u', v', R', hm', q1, q2, q3⟩ := tk_l 8 0 (by omega) u v R m1
  have es : gx_states u' = gy_states v' := R'.2.2.2.1.2.2.1
  have ky : ∀ post : Int32 → SY → Prop, post (nI (ks_f (fun i => gx_states u' i == 1) 8 0)) v' → wpY_tick post v := by
    intro post hp
    rw [es] at hp
    have key := q3 post hp
    clear hp q3 q2 R' es R
    obtain ⟨f_active, f_outPlace, f_outHeader, f_seen, a_links, a_sizes, a_matches, a_actions, a_changes, a_states, a_places, a_headers, a_tables, a_treated⟩ := v
    exact Exists.intro _ key
  have kx : ∀ post : Int32 → SX → Prop, post (nI (ks_f (fun i => gx_states u' i == 1) 8 0)) u' → wpX_tick post u := by
    intro post hp
    have key := q2 post 0 (by rw [Nat.zero_add]; exact hp)
    clear hp q3 q2 R' es R q1 ky m1
    obtain ⟨f_active, f_outPlace, f_outHeader, f_freeNode, f_freeCount, f_keptDiagram, f_depth, f_got, f_stamp, a_links, a_ruleCount, a_matches, a_actions, a_changes, a_states, a_places, a_headers, a_tables, a_treated, a_nodes, a_following, a_marked, a_bucket, a_now, a_next, a_layer, a_workLevel, a_workOne, a_workTwo, a_workPhase, a_workLow, a_memoStamp, a_memoOne, a_memoTwo, a_memoLevel, a_memoGot⟩ := u
    exact Exists.intro _ key
  exact kx _ (ky _ ⟨rfl, ⟨⟨T0, TT, π, a, R'⟩, σ, hm', by omega⟩⟩)
end
section
/-! questions: tables, ends, counts -/
theorem rl_f {k : Nat} {u : SX} {v : SY} (R : i_Rel k u v) {f : Nat} : ∃ (T : TB) (tX tY : Nat), tb_Ok T ∧ tX < 4 ∧ tY < 4 ∧ tx_Hd u tX T ∧ ty_Hd v tY T ∧ (20 ≤ f → tX = 0 ∧ tY = 0) ∧ (f < 20 → gx_active u = nI tX ∧ gy_active v = nI tY) := by
  obtain ⟨⟨T0, TT, π, a, R1, R2, R3, R4, R5⟩, σ, m1, m2⟩ := R
  by_cases h : f < 20
  · exact ⟨TT a, a, π a, R1.2.1 a, R3.2.1, (R2.1 a R3.1 R3.2.1).2, R3.2.2.2.2.1, R3.2.2.2.2.2, fun z => absurd z (by omega), fun _ => ⟨R3.2.2.1, R3.2.2.2.1⟩⟩
  · exact ⟨T0, 0, 0, R1.1, by omega, by omega, R1.2.2.1, R1.2.2.2, fun _ => ⟨rfl, rfl⟩, fun z => absurd z h⟩
theorem xF_t {post : Int32 → Prop} {f t : Nat} (hf : f < 40) : ∀ u : SX, (20 ≤ f → t = 0) → (f < 20 → gx_active u = nI t) → post (nI t) → wpX_tableFor post u (nI f) := by
  rintro ⟨f_active, f_outPlace, f_outHeader, f_freeNode, f_freeCount, f_keptDiagram, f_depth, f_got, f_stamp, a_links, a_ruleCount, a_matches, a_actions, a_changes, a_states, a_places, a_headers, a_tables, a_treated, a_nodes, a_following, a_marked, a_bucket, a_now, a_next, a_layer, a_workLevel, a_workOne, a_workTwo, a_workPhase, a_workLow, a_memoStamp, a_memoOne, a_memoTwo, a_memoLevel, a_memoGot⟩ h1 h2 hp
  refine pk_le 20 f (fun z => ?_) (fun z => ?_)
  · rw [h1 z] at hp; exact hp
  · rw [← h2 z] at hp; exact hp
theorem xe_w {post : Int32 → SX → Prop} {f h t : Nat} (hf : f < 40) (hh : h < 64) : ∀ u : SX, (20 ≤ f → t = 0) → (f < 20 → gx_active u = nI t) → wX_end_34 post (nI t) 17 (nI (f % 20)) (nI h) (nI 0) (gx_active u) (gx_outPlace u) (gx_outHeader u) (gx_freeNode u) (gx_freeCount u) (gx_keptDiagram u) (gx_depth u) (gx_got u) (gx_stamp u) (gx_links u) (gx_ruleCount u) (gx_matches u) (gx_actions u) (gx_changes u) (gx_states u) (gx_places u) (gx_headers u) (gx_tables u) (gx_treated u) (gx_nodes u) (gx_following u) (gx_marked u) (gx_bucket u) (gx_now u) (gx_next u) (gx_layer u) (gx_workLevel u) (gx_workOne u) (gx_workTwo u) (gx_workPhase u) (gx_workLow u) (gx_memoStamp u) (gx_memoOne u) (gx_memoTwo u) (gx_memoLevel u) (gx_memoGot u) → wpX_end post u (nI f) (nI h) := by
  intro u h1 h2 H
  have kt : ∀ Q : Int32 → Prop, Q (nI t) → wpX_tableFor Q u (nI f) := fun Q hQ => xF_t hf u h1 h2 hQ
  obtain ⟨f_active, f_outPlace, f_outHeader, f_freeNode, f_freeCount, f_keptDiagram, f_depth, f_got, f_stamp, a_links, a_ruleCount, a_matches, a_actions, a_changes, a_states, a_places, a_headers, a_tables, a_treated, a_nodes, a_following, a_marked, a_bucket, a_now, a_next, a_layer, a_workLevel, a_workOne, a_workTwo, a_workPhase, a_workLow, a_memoStamp, a_memoOne, a_memoTwo, a_memoLevel, a_memoGot⟩ := u
  unfold wpX_end
  refine xF_g hf ?_
  refine br_f (by decide) ?_
  refine xH_g hh ?_
  refine br_f (by decide) ?_
  refine kt _ ?_
  exact And.intro (by decide) (nm_r (nb_r20 (by omega)) (Exists.intro _ H))
theorem xe_b {post : Int32 → SX → Prop} {x y : Int32} (h : bd_o 40 x ∨ ∃ p, p < 40 ∧ x = nI p ∧ bd_o 64 y) : ∀ u : SX, post (-1) u → wpX_end post u x y := by
  rintro ⟨f_active, f_outPlace, f_outHeader, f_freeNode, f_freeCount, f_keptDiagram, f_depth, f_got, f_stamp, a_links, a_ruleCount, a_matches, a_actions, a_changes, a_states, a_places, a_headers, a_tables, a_treated, a_nodes, a_following, a_marked, a_bucket, a_now, a_next, a_layer, a_workLevel, a_workOne, a_workTwo, a_workPhase, a_workLow, a_memoStamp, a_memoOne, a_memoTwo, a_memoLevel, a_memoGot⟩ hp
  unfold wpX_end
  rcases h with h | ⟨p, h1, rfl, h2⟩
  · refine xF_b h ?_
    exact br_t rfl hp
  · refine xF_g h1 ?_
    refine br_f (by decide) ?_
    refine xH_b h2 ?_
    exact br_t rfl hp
theorem ye_b {post : Int32 → SY → Prop} {x y : Int32} (h : bd_o 40 x ∨ ∃ p, p < 40 ∧ x = nI p ∧ bd_o 64 y) : ∀ v : SY, post (-1) v → wpY_end post v x y := by
  rintro ⟨f_active, f_outPlace, f_outHeader, f_seen, a_links, a_sizes, a_matches, a_actions, a_changes, a_states, a_places, a_headers, a_tables, a_treated⟩ hp
  unfold wpY_end
  rcases h with h | ⟨p, h1, rfl, h2⟩
  · refine yF_b h _ ?_
    exact br_f (by decide) hp
  · refine yF_g h1 _ ?_
    refine br_t rfl ?_
    refine yH_b h2 _ ?_
    exact br_f (by decide) hp
theorem ye_w {post : Int32 → SY → Prop} {f h : Nat} (hf : f < 40) (hh : h < 64) : ∀ v : SY, (∀ Q : Int32 → SY → Prop, (∀ r v', post r v' → Q r v') → wpY_follow Q v (nI f) (nI h)) → wpY_end post v (nI f) (nI h) := by
  rintro ⟨f_active, f_outPlace, f_outHeader, f_seen, a_links, a_sizes, a_matches, a_actions, a_changes, a_states, a_places, a_headers, a_tables, a_treated⟩ H
  unfold wpY_end
  refine yF_g hf _ ?_
  refine br_t rfl ?_
  refine yH_g hh _ ?_
  refine br_t rfl (H _ ?_)
  rintro r ⟨f_active2, f_outPlace2, f_outHeader2, f_seen2, a_links2, a_sizes2, a_matches2, a_actions2, a_changes2, a_states2, a_places2, a_headers2, a_tables2, a_treated2⟩ h
  exact h
theorem i_vc_end {k : Nat} {u : SX} {v : SY} (I : i_Rel k u v) (hk : k + 5 ≤ 2560) (v1 : Int32) (v2 : Int32) : wpX_end (fun r u' => wpY_end (fun r' v' => r' = r ∧ i_Rel (k + 5) u' v') v v1 v2) u v1 v2 := by
  have RU := i_up I
  rcases bd_or 40 (by decide) v1 with h1 | ⟨f, hf, rfl⟩
  · exact xe_b (Or.inl h1) u (ye_b (Or.inl h1) v ⟨rfl, RU⟩)
  rcases bd_or 64 (by decide) v2 with h2 | ⟨h, hh, rfl⟩
  · exact xe_b (Or.inr ⟨f, hf, rfl, h2⟩) u (ye_b (Or.inr ⟨f, hf, rfl, h2⟩) v ⟨rfl, RU⟩)
  obtain ⟨l1, l2⟩ := rl_lk I
  obtain ⟨T, tX, tY, hT, t1, t2, HX, HY, e0, e1⟩ := rl_f I (f := f)
  refine xe_w hf hh u (fun z => (e0 z).1) (fun z => (e1 z).1) ?_
  refine xe_l t1 hT _ 16 (by omega) u (f % 20) h (by omega) hh HX l2 (fun a b => ?_)
  refine ye_w hf hh v (fun Q hQ => ?_)
  refine yf_f t2 hf hh hT Q v (fun z => (e0 z).2) (fun z => (e1 z).2) HY (by rw [← l1]; exact l2) (fun a' b' c' _ => hQ _ _ ⟨?_, rl_x2 a b (rl_y2 a' b' c' RU)⟩)
  rw [l1]
theorem ks_r (g : Nat → Bool) : ∀ d t, ks_f g d t = cn_r d (fun i => g (t + i)) := by
  intro d
  induction d with
  | zero => intro t; rfl
  | succ d ih =>
    intro t
    show (g t).toNat + ks_f g d (t + 1) = _
    rw [ih (t + 1), show d + 1 = 1 + d by omega, cn_r_add]
    have e : (fun h => g (t + (1 + h))) = fun i => g (t + 1 + i) := by
      funext i
      rw [Nat.add_assoc]
    rw [e]
    show _ = (0 + if g (t + 0) = true then 1 else 0) + _
    rw [Nat.add_zero, Nat.zero_add]
    cases g t <;> rfl
/-- the reference counts, header after header -/
theorem yc_s {post : Int32 → SY → Prop} {n c h : Nat} {x1 x2 : Int32} (hh : h < 64) : ∀ v : SY, (∀ Q : Int32 → SY → Prop, (∀ r v', ((r = x2 → wY_count_5 post x1 x2 n (nI (c + 1)) (nI (h + 1)) (gy_active v') (gy_outPlace v') (gy_outHeader v') (gy_seen v') (gy_links v') (gy_sizes v') (gy_matches v') (gy_actions v') (gy_changes v') (gy_states v') (gy_places v') (gy_headers v') (gy_tables v') (gy_treated v')) ∧ (¬ r = x2 → wY_count_5 post x1 x2 n (nI c) (nI (h + 1)) (gy_active v') (gy_outPlace v') (gy_outHeader v') (gy_seen v') (gy_links v') (gy_sizes v') (gy_matches v') (gy_actions v') (gy_changes v') (gy_states v') (gy_places v') (gy_headers v') (gy_tables v') (gy_treated v'))) → Q r v') → wpY_follow Q v x1 (nI h)) → wY_count_5 post x1 x2 (n + 1) (nI c) (nI h) (gy_active v) (gy_outPlace v) (gy_outHeader v) (gy_seen v) (gy_links v) (gy_sizes v) (gy_matches v) (gy_actions v) (gy_changes v) (gy_states v) (gy_places v) (gy_headers v) (gy_tables v) (gy_treated v) := by
  rintro ⟨f_active, f_outPlace, f_outHeader, f_seen, a_links, a_sizes, a_matches, a_actions, a_changes, a_states, a_places, a_headers, a_tables, a_treated⟩ H
  have key : wY_count_5 post x1 x2 (n + 1) (nI c) (nI h) f_active f_outPlace f_outHeader f_seen a_links a_sizes a_matches a_actions a_changes a_states a_places a_headers a_tables a_treated := by
    refine br_f (nI_ge (b := 64) hh (by decide)) (H _ ?_)
    rintro r ⟨f_active2, f_outPlace2, f_outHeader2, f_seen2, a_links2, a_sizes2, a_matches2, a_actions2, a_changes2, a_states2, a_places2, a_headers2, a_tables2, a_treated2⟩ h
    exact br_c (fun z => nm_r (nI_1 c) (nm_r (nI_1 _) (h.1 z))) (fun z => nm_r (nI_1 _) (h.2 z))
  exact key
section
variable {T : TB} {t f : Nat} {v : SY}
theorem yc_l {post : Int32 → SY → Prop} {e : Nat} (he : e < 2 ^ 31) (ht : t < 4) (hf : f < 40) (hT : tb_Ok T) (h1 : 20 ≤ f → t = 0) (h2 : f < 20 → gy_active v = nI t) (H : ty_Hd v t T) (hl : lk_Ok (gy_links v)) (hF : ∀ h, h < 64 → fw_e (lk_f (gy_links v)) T 16 (f % 20) h < 2 ^ 31) : ∀ d h, h + d = 64 → ∀ (a b c : Int32) (n : Nat), (∀ a b c, post (nI (n + ks_f (fun i => fw_e (lk_f (gy_links v)) T 16 (f % 20) i == e) d h)) (sy_ohs v a b c)) → wY_count_5 post (nI f) (nI e) (d + 1) (nI n) (nI h) (gy_active (sy_ohs v a b c)) (gy_outPlace (sy_ohs v a b c)) (gy_outHeader (sy_ohs v a b c)) (gy_seen (sy_ohs v a b c)) (gy_links (sy_ohs v a b c)) (gy_sizes (sy_ohs v a b c)) (gy_matches (sy_ohs v a b c)) (gy_actions (sy_ohs v a b c)) (gy_changes (sy_ohs v a b c)) (gy_states (sy_ohs v a b c)) (gy_places (sy_ohs v a b c)) (gy_headers (sy_ohs v a b c)) (gy_tables (sy_ohs v a b c)) (gy_treated (sy_ohs v a b c)) := by
  intro d
  induction d with
  | zero =>
    intro h hh a b c n hp
    have e' : h = 64 := by omega
    subst e'
    exact br_t (by decide) (hp a b c)
  | succ d ih =>
    intro h hh a b c n hp
    refine yc_s (by omega) _ (fun Q hQ => ?_)
    refine yf_f (T := T) (t := t) ht hf (by omega) hT Q (sy_ohs v a b c) h1 h2 H hl (fun a' b' c' _ => hQ _ _ ?_)
    show ((nI (fw_e (lk_f (gy_links v)) T 16 (f % 20) h) = nI e → _) ∧ _)
    refine pk_eq (fw_e (lk_f (gy_links v)) T 16 (f % 20) h) e (fun z => ?_) (fun z => ?_) rfl rfl (hF h (by omega)) he
    · refine ih (h + 1) (by omega) a' b' c' (n + 1) (fun a b c => ?_)
      have := hp a b c
      change post (nI (n + ((fw_e (lk_f (gy_links v)) T 16 (f % 20) h == e).toNat + ks_f (fun i => fw_e (lk_f (gy_links v)) T 16 (f % 20) i == e) d (h + 1)))) _ at this
      rw [show (fw_e (lk_f (gy_links v)) T 16 (f % 20) h == e) = true from by rw [beq_iff_eq]; exact z, ← Nat.add_assoc] at this
      exact this
    · refine ih (h + 1) (by omega) a' b' c' n (fun a b c => ?_)
      have := hp a b c
      change post (nI (n + ((fw_e (lk_f (gy_links v)) T 16 (f % 20) h == e).toNat + ks_f (fun i => fw_e (lk_f (gy_links v)) T 16 (f % 20) i == e) d (h + 1)))) _ at this
      rw [show (fw_e (lk_f (gy_links v)) T 16 (f % 20) h == e) = false from by rw [beq_eq_false_iff_ne]; exact z] at this
      change post (nI (n + (0 + ks_f (fun i => fw_e (lk_f (gy_links v)) T 16 (f % 20) i == e) d (h + 1)))) _ at this
      rw [Nat.zero_add] at this
      exact this
theorem yc_w {post : Int32 → SY → Prop} {e : Nat} (he : e < 2 ^ 31) (ht : t < 4) (hf : f < 40) (hT : tb_Ok T) (h1 : 20 ≤ f → t = 0) (h2 : f < 20 → gy_active v = nI t) (H : ty_Hd v t T) (hl : lk_Ok (gy_links v)) (hF : ∀ h, h < 64 → fw_e (lk_f (gy_links v)) T 16 (f % 20) h < 2 ^ 31) (hp : ∀ a b c, post (nI (cn_r 64 (fun i => fw_e (lk_f (gy_links v)) T 16 (f % 20) i == e))) (sy_ohs v a b c)) : wpY_count post v (nI f) (nI e) := by
  have ek : ks_f (fun i => fw_e (lk_f (gy_links v)) T 16 (f % 20) i == e) 64 0 = cn_r 64 (fun i => fw_e (lk_f (gy_links v)) T 16 (f % 20) i == e) := by
    rw [ks_r]
    exact cn_r_cg _ _ _ (fun i _ => by rw [Nat.zero_add])
  have key := yc_l (post := post) he ht hf hT h1 h2 H hl hF 64 0 (by omega) (gy_outPlace v) (gy_outHeader v) (gy_seen v) 0 (fun a b c => by rw [Nat.zero_add, ek]; exact hp a b c)
  clear hp
  obtain ⟨f_active, f_outPlace, f_outHeader, f_seen, a_links, a_sizes, a_matches, a_actions, a_changes, a_states, a_places, a_headers, a_tables, a_treated⟩ := v
  exact Exists.intro _ key
end
theorem fw_lt {lk : Nat → Option Nat} {T : TB} (hT : tb_Ok T) (hlk : ∀ q p', q < 20 → lk q = some p' → p' < 20) : ∀ k p h, p < 20 → h < 64 → fw_e lk T k p h < 120 := by
  intro k
  induction k with
  | zero => intro p h _ _; show 2 < 120; omega
  | succ k ih =>
    intro p h hp hh
    cases e : tr_o T 6 p h with
    | none => rw [fw_e_n e]; omega
    | some x =>
      obtain ⟨q, g⟩ := x
      have hq := tr_lt hT hp hh e
      cases el : lk q with
      | none => rw [fw_e_d e el]; omega
      | some p' => rw [fw_e_c e el]; exact ih p' g (hlk q p' hq.1 el) hq.2
/-- what the component finds of all headers from a place -/
theorem xn_ends {post : Int32 → SX → Prop} {f : Nat} (hf : f < 40) : ∀ u : SX, (∀ Q : SX → Prop, (∀ u1 : SX, (∀ Q1 : Int32 → Prop, (∀ r : Int32, (∀ Q2 : SX → Prop, (∀ u2 : SX, post (gx_now u2 (f % 20)) u2 → Q2 u2) → wpX_solve Q2 u1 r (-1)) → Q1 r) → wpX_tableFor Q1 u1 (nI f)) → Q u1) → wpX_reset Q u) → wpX_endsFrom post u (nI f) := by
  rintro ⟨f_active, f_outPlace, f_outHeader, f_freeNode, f_freeCount, f_keptDiagram, f_depth, f_got, f_stamp, a_links, a_ruleCount, a_matches, a_actions, a_changes, a_states, a_places, a_headers, a_tables, a_treated, a_nodes, a_following, a_marked, a_bucket, a_now, a_next, a_layer, a_workLevel, a_workOne, a_workTwo, a_workPhase, a_workLow, a_memoStamp, a_memoOne, a_memoTwo, a_memoLevel, a_memoGot⟩ H
  have e20 : nI f - nI f / 20 * 20 = nI (f % 20) := nb_r20 (by omega)
  have hv : vp_in (nI (f % 20)) 20 := vp_in_nI (by omega) (by decide)
  have hc : (nI (f % 20)).toNatClampNeg = f % 20 := nI_clamp (by omega)
  unfold wpX_endsFrom
  dsimp only
  rw [e20, hc]
  refine H _ ?_
  rintro ⟨f_active2, f_outPlace2, f_outHeader2, f_freeNode2, f_freeCount2, f_keptDiagram2, f_depth2, f_got2, f_stamp2, a_links2, a_ruleCount2, a_matches2, a_actions2, a_changes2, a_states2, a_places2, a_headers2, a_tables2, a_treated2, a_nodes2, a_following2, a_marked2, a_bucket2, a_now2, a_next2, a_layer2, a_workLevel2, a_workOne2, a_workTwo2, a_workPhase2, a_workLow2, a_memoStamp2, a_memoOne2, a_memoTwo2, a_memoLevel2, a_memoGot2⟩ h1
  refine h1 _ ?_
  intro r h2
  refine h2 _ ?_
  rintro ⟨f_active3, f_outPlace3, f_outHeader3, f_freeNode3, f_freeCount3, f_keptDiagram3, f_depth3, f_got3, f_stamp3, a_links3, a_ruleCount3, a_matches3, a_actions3, a_changes3, a_states3, a_places3, a_headers3, a_tables3, a_treated3, a_nodes3, a_following3, a_marked3, a_bucket3, a_now3, a_next3, a_layer3, a_workLevel3, a_workOne3, a_workTwo3, a_workPhase3, a_workLow3, a_memoStamp3, a_memoOne3, a_memoTwo3, a_memoLevel3, a_memoGot3⟩ h3
  exact And.intro (by decide) (And.intro hv h3)
theorem xd_ends {post : Int32 → SX → Prop} {T : TB} {t f σ : Nat} (ht : t < 4) (hf : f < 40) (hT : tb_Ok T) (hσ : σ + 3840 < 2 ^ 31) (u : SX) (h1 : 20 ≤ f → t = 0) (h2 : f < 20 → gx_active u = nI t) (H : tx_Hd u t T) (hl : lk_Ok (gx_links u)) (hs : ms_k u σ) (hp : ∀ (r : Nat) (u' : SX) (F' : List Nat) (σ' : Nat), st_Ok (bx_S u') F' → ms_k u' σ' → σ' ≤ σ + 3840 → bx_C u' = bx_C u → dg_R (bx_S u') F' r (fw_e (lk_f (gx_links u)) T 16 (f % 20)) → 243 ≤ F'.length → post (nI r) u') : wpX_endsFrom post u (nI f) := by
  refine xn_ends hf u (fun Q hQ => ?_)
  refine xz_reset u (fun u1 S1 C1 M1 K1 => hQ u1 (fun Q1 hQ1 => ?_))
  refine xF_t (t := t) hf u1 h1 (fun z => by rw [xC_a C1]; exact h2 z) (hQ1 _ (fun Q2 hQ2 => ?_))
  have hl1 : lk_Ok (gx_links u1) := by rw [xC_links C1]; exact hl
  refine xd_solve (g := none) (kd := none) (fk := fun _ => 0) (σ := σ) (fm := 243) (F := List.range' 0 4096) (Nat.le_refl _) (fun s hs => absurd hs (by simp)) ht hT hσ u1 (xC_Hd C1 H) hl1 S1 (ms_M M1 hs) K1 (fun r hr => absurd hr (by simp)) (by rw [List.length_range']; omega) ?_
  intro u' F' σ' nw hI h3 h4
  obtain ⟨S', ms', C', n', k', f'⟩ := hI
  have hn := n' (f % 20) (by omega)
  refine hQ2 u' ?_
  rw [hn.1]
  rw [xC_links C1] at hn
  exact hp (nw (f % 20)) u' F' σ' S' ms' h3 (C'.trans C1) hn.2 h4
end
section
/-! arriving, ending, nextArriving -/
theorem rl_C {k σ : Nat} {u u' : SX} {v : SY} (R : i_Rel k u v) (hC : bx_C u' = bx_C u) (hs : ms_k u' σ) (h : σ ≤ 1536 * (k + 5)) : i_Rel (k + 5) u' v := by
  obtain ⟨⟨T0, TT, π, a, R⟩, _, _, _⟩ := R
  exact ⟨⟨T0, TT, π, a, rc_C hC R⟩, σ, hs, h⟩
theorem rl_ms {k : Nat} {u : SX} {v : SY} (R : i_Rel k u v) : ∃ σ, ms_k u σ ∧ σ ≤ 1536 * k := R.2
theorem xa_b {post : Int32 → SX → Prop} {x y : Int32} (h : bd_o 40 x ∨ ∃ p, p < 40 ∧ x = nI p ∧ bd_o 20 y) : ∀ u : SX, post (-1) u → wpX_arriving post u x y := by
  rintro ⟨f_active, f_outPlace, f_outHeader, f_freeNode, f_freeCount, f_keptDiagram, f_depth, f_got, f_stamp, a_links, a_ruleCount, a_matches, a_actions, a_changes, a_states, a_places, a_headers, a_tables, a_treated, a_nodes, a_following, a_marked, a_bucket, a_now, a_next, a_layer, a_workLevel, a_workOne, a_workTwo, a_workPhase, a_workLow, a_memoStamp, a_memoOne, a_memoTwo, a_memoLevel, a_memoGot⟩ hp
  unfold wpX_arriving
  rcases h with h | ⟨p, h1, rfl, h2⟩
  · refine xF_b h ?_
    exact br_t rfl hp
  · refine xF_g h1 ?_
    refine br_f (by decide) ?_
    refine xP_b h2 ?_
    exact br_t rfl hp
theorem xa_g {post : Int32 → SX → Prop} {f q : Nat} (hf : f < 40) (hq : q < 20) : ∀ u : SX, (∀ Q : Int32 → SX → Prop, (∀ r u1, (∀ Q' : Int32 → SX → Prop, (∀ r' u', post r' u' → Q' r' u') → wpX_countOf Q' u1 r (nI (100 + q))) → Q r u1) → wpX_endsFrom Q u (nI f)) → wpX_arriving post u (nI f) (nI q) := by
  rintro ⟨f_active, f_outPlace, f_outHeader, f_freeNode, f_freeCount, f_keptDiagram, f_depth, f_got, f_stamp, a_links, a_ruleCount, a_matches, a_actions, a_changes, a_states, a_places, a_headers, a_tables, a_treated, a_nodes, a_following, a_marked, a_bucket, a_now, a_next, a_layer, a_workLevel, a_workOne, a_workTwo, a_workPhase, a_workLow, a_memoStamp, a_memoOne, a_memoTwo, a_memoLevel, a_memoGot⟩ H
  have e : (100 : Int32) + nI q = nI (100 + q) := nI_add 100 q
  unfold wpX_arriving
  dsimp only
  rw [e]
  refine xF_g hf ?_
  refine br_f (by decide) ?_
  refine xP_g hq ?_
  refine br_f (by decide) (H _ ?_)
  rintro r ⟨f_active2, f_outPlace2, f_outHeader2, f_freeNode2, f_freeCount2, f_keptDiagram2, f_depth2, f_got2, f_stamp2, a_links2, a_ruleCount2, a_matches2, a_actions2, a_changes2, a_states2, a_places2, a_headers2, a_tables2, a_treated2, a_nodes2, a_following2, a_marked2, a_bucket2, a_now2, a_next2, a_layer2, a_workLevel2, a_workOne2, a_workTwo2, a_workPhase2, a_workLow2, a_memoStamp2, a_memoOne2, a_memoTwo2, a_memoLevel2, a_memoGot2⟩ h
  refine h _ ?_
  rintro r' ⟨f_active3, f_outPlace3, f_outHeader3, f_freeNode3, f_freeCount3, f_keptDiagram3, f_depth3, f_got3, f_stamp3, a_links3, a_ruleCount3, a_matches3, a_actions3, a_changes3, a_states3, a_places3, a_headers3, a_tables3, a_treated3, a_nodes3, a_following3, a_marked3, a_bucket3, a_now3, a_next3, a_layer3, a_workLevel3, a_workOne3, a_workTwo3, a_workPhase3, a_workLow3, a_memoStamp3, a_memoOne3, a_memoTwo3, a_memoLevel3, a_memoGot3⟩ h'
  exact h'
theorem ya_b {post : Int32 → SY → Prop} {x y : Int32} (h : bd_o 40 x ∨ ∃ p, p < 40 ∧ x = nI p ∧ bd_o 20 y) : ∀ v : SY, post (-1) v → wpY_arriving post v x y := by
  rintro ⟨f_active, f_outPlace, f_outHeader, f_seen, a_links, a_sizes, a_matches, a_actions, a_changes, a_states, a_places, a_headers, a_tables, a_treated⟩ hp
  unfold wpY_arriving
  rcases h with h | ⟨p, h1, rfl, h2⟩
  · refine yF_b h _ ?_
    exact br_f (by decide) hp
  · refine yF_g h1 _ ?_
    refine br_t rfl ?_
    refine yP_b h2 _ ?_
    exact br_f (by decide) hp
theorem ya_g {post : Int32 → SY → Prop} {f q : Nat} (hf : f < 40) (hq : q < 20) : ∀ v : SY, (∀ Q : Int32 → SY → Prop, (∀ r v', post r v' → Q r v') → wpY_count Q v (nI f) (nI (100 + q))) → wpY_arriving post v (nI f) (nI q) := by
  rintro ⟨f_active, f_outPlace, f_outHeader, f_seen, a_links, a_sizes, a_matches, a_actions, a_changes, a_states, a_places, a_headers, a_tables, a_treated⟩ H
  have e : (100 : Int32) + nI q = nI (100 + q) := nI_add 100 q
  unfold wpY_arriving
  dsimp only
  rw [e]
  refine yF_g hf _ ?_
  refine br_t rfl ?_
  refine yP_g hq _ ?_
  refine br_t rfl (H _ ?_)
  rintro r ⟨f_active2, f_outPlace2, f_outHeader2, f_seen2, a_links2, a_sizes2, a_matches2, a_actions2, a_changes2, a_states2, a_places2, a_headers2, a_tables2, a_treated2⟩ h
  exact h
theorem i_vc_arriving {k : Nat} {u : SX} {v : SY} (I : i_Rel k u v) (hk : k + 5 ≤ 2560) (v1 : Int32) (v2 : Int32) : wpX_arriving (fun r u' => wpY_arriving (fun r' v' => r' = r ∧ i_Rel (k + 5) u' v') v v1 v2) u v1 v2 := by
  have RU := i_up I
  rcases bd_or 40 (by decide) v1 with h1 | ⟨f, hf, rfl⟩
  · exact xa_b (Or.inl h1) u (ya_b (Or.inl h1) v ⟨rfl, RU⟩)
  rcases bd_or 20 (by decide) v2 with h2 | ⟨q, hq, rfl⟩
  · exact xa_b (Or.inr ⟨f, hf, rfl, h2⟩) u (ya_b (Or.inr ⟨f, hf, rfl, h2⟩) v ⟨rfl, RU⟩)
  obtain ⟨l1, l2⟩ := rl_lk I
  obtain ⟨T, tX, tY, hT, t1, t2, HX, HY, e0, e1⟩ := rl_f I (f := f)
  obtain ⟨σ, hs, hσ⟩ := rl_ms I
  have hF := fw_lt hT (lk_lt l2) 16 (f % 20)
  refine xa_g hf hq u (fun Q hQ => ?_)
  refine xd_ends t1 hf hT (by omega) u (fun z => (e0 z).1) (fun z => (e1 z).1) HX l2 hs ?_
  intro r u1 F1 σ1 S1 ms1 s1 C1 D1 _
  refine hQ _ _ (fun Q' hQ' => ?_)
  obtain ⟨u2, w1, w2⟩ := xd_count (v := 100 + q) (by omega) u1 S1 D1
  refine w1 _ (hQ' _ _ ?_)
  refine ya_g hf hq v (fun Q2 hQ2 => ?_)
  rw [l1] at hF hQ2
  refine yc_w (by omega) t2 hf hT (fun z => (e0 z).2) (fun z => (e1 z).2) HY (by rw [← l1]; exact l2) (fun h hh => by have := hF h (by omega) hh; omega) (fun a b c => hQ2 _ _ ⟨rfl, ?_⟩)
  exact rl_y2 a b c (rl_C I (w2.1.trans C1) (ms_M w2.2.2.2 ms1) (by omega))
theorem xg_b {post : Int32 → SX → Prop} {x y : Int32} (h : bd_o 40 x ∨ ∃ p, p < 40 ∧ x = nI p ∧ bd_o 2 y) : ∀ u : SX, post (-1) u → wpX_ending post u x y := by
  rintro ⟨f_active, f_outPlace, f_outHeader, f_freeNode, f_freeCount, f_keptDiagram, f_depth, f_got, f_stamp, a_links, a_ruleCount, a_matches, a_actions, a_changes, a_states, a_places, a_headers, a_tables, a_treated, a_nodes, a_following, a_marked, a_bucket, a_now, a_next, a_layer, a_workLevel, a_workOne, a_workTwo, a_workPhase, a_workLow, a_memoStamp, a_memoOne, a_memoTwo, a_memoLevel, a_memoGot⟩ hp
  unfold wpX_ending
  rcases h with h | ⟨p, h1, rfl, h2⟩
  · refine xF_b h ?_
    exact br_t rfl hp
  · refine xF_g h1 ?_
    refine br_f (by decide) ?_
    exact c4_b 1 (by decide) h2 hp
theorem xg_g {post : Int32 → SX → Prop} {f q : Nat} (hf : f < 40) (hq : q < 2) : ∀ u : SX, (∀ Q : Int32 → SX → Prop, (∀ r u1, (∀ Q' : Int32 → SX → Prop, (∀ r' u', post r' u' → Q' r' u') → wpX_countOf Q' u1 r (nI (1 + q))) → Q r u1) → wpX_endsFrom Q u (nI f)) → wpX_ending post u (nI f) (nI q) := by
  rintro ⟨f_active, f_outPlace, f_outHeader, f_freeNode, f_freeCount, f_keptDiagram, f_depth, f_got, f_stamp, a_links, a_ruleCount, a_matches, a_actions, a_changes, a_states, a_places, a_headers, a_tables, a_treated, a_nodes, a_following, a_marked, a_bucket, a_now, a_next, a_layer, a_workLevel, a_workOne, a_workTwo, a_workPhase, a_workLow, a_memoStamp, a_memoOne, a_memoTwo, a_memoLevel, a_memoGot⟩ H
  unfold wpX_ending
  refine xF_g hf ?_
  refine br_f (by decide) ?_
  refine c4_g 1 (by decide) hq (H _ ?_)
  rintro r ⟨f_active2, f_outPlace2, f_outHeader2, f_freeNode2, f_freeCount2, f_keptDiagram2, f_depth2, f_got2, f_stamp2, a_links2, a_ruleCount2, a_matches2, a_actions2, a_changes2, a_states2, a_places2, a_headers2, a_tables2, a_treated2, a_nodes2, a_following2, a_marked2, a_bucket2, a_now2, a_next2, a_layer2, a_workLevel2, a_workOne2, a_workTwo2, a_workPhase2, a_workLow2, a_memoStamp2, a_memoOne2, a_memoTwo2, a_memoLevel2, a_memoGot2⟩ h
  refine pk_eq q 0 (fun z => ?_) (fun z => ?_)
  · subst z
    refine h _ ?_
    rintro r' ⟨f_active3, f_outPlace3, f_outHeader3, f_freeNode3, f_freeCount3, f_keptDiagram3, f_depth3, f_got3, f_stamp3, a_links3, a_ruleCount3, a_matches3, a_actions3, a_changes3, a_states3, a_places3, a_headers3, a_tables3, a_treated3, a_nodes3, a_following3, a_marked3, a_bucket3, a_now3, a_next3, a_layer3, a_workLevel3, a_workOne3, a_workTwo3, a_workPhase3, a_workLow3, a_memoStamp3, a_memoOne3, a_memoTwo3, a_memoLevel3, a_memoGot3⟩ h'
    exact h'
  · have e : q = 1 := by omega
    subst e
    refine h _ ?_
    rintro r' ⟨f_active3, f_outPlace3, f_outHeader3, f_freeNode3, f_freeCount3, f_keptDiagram3, f_depth3, f_got3, f_stamp3, a_links3, a_ruleCount3, a_matches3, a_actions3, a_changes3, a_states3, a_places3, a_headers3, a_tables3, a_treated3, a_nodes3, a_following3, a_marked3, a_bucket3, a_now3, a_next3, a_layer3, a_workLevel3, a_workOne3, a_workTwo3, a_workPhase3, a_workLow3, a_memoStamp3, a_memoOne3, a_memoTwo3, a_memoLevel3, a_memoGot3⟩ h'
    exact h'
theorem yg_b {post : Int32 → SY → Prop} {x y : Int32} (h : bd_o 40 x ∨ ∃ p, p < 40 ∧ x = nI p ∧ bd_o 2 y) : ∀ v : SY, post (-1) v → wpY_ending post v x y := by
  rintro ⟨f_active, f_outPlace, f_outHeader, f_seen, a_links, a_sizes, a_matches, a_actions, a_changes, a_states, a_places, a_headers, a_tables, a_treated⟩ hp
  unfold wpY_ending
  rcases h with h | ⟨p, h1, rfl, h2⟩
  · refine yF_b h _ ?_
    exact br_f (by decide) hp
  · refine yF_g h1 _ ?_
    refine br_t rfl ?_
    exact c4_b 1 (by decide) h2 hp
theorem yg_g {post : Int32 → SY → Prop} {f q : Nat} (hf : f < 40) (hq : q < 2) : ∀ v : SY, (∀ Q : Int32 → SY → Prop, (∀ r v', post r v' → Q r v') → wpY_count Q v (nI f) (nI (1 + q))) → wpY_ending post v (nI f) (nI q) := by
  rintro ⟨f_active, f_outPlace, f_outHeader, f_seen, a_links, a_sizes, a_matches, a_actions, a_changes, a_states, a_places, a_headers, a_tables, a_treated⟩ H
  have e : (1 : Int32) + nI q = nI (1 + q) := nI_add 1 q
  unfold wpY_ending
  dsimp only
  rw [e]
  refine yF_g hf _ ?_
  refine br_t rfl ?_
  refine c4_g 1 (by decide) hq (H _ ?_)
  rintro r ⟨f_active2, f_outPlace2, f_outHeader2, f_seen2, a_links2, a_sizes2, a_matches2, a_actions2, a_changes2, a_states2, a_places2, a_headers2, a_tables2, a_treated2⟩ h
  exact h
theorem i_vc_ending {k : Nat} {u : SX} {v : SY} (I : i_Rel k u v) (hk : k + 5 ≤ 2560) (v1 : Int32) (v2 : Int32) : wpX_ending (fun r u' => wpY_ending (fun r' v' => r' = r ∧ i_Rel (k + 5) u' v') v v1 v2) u v1 v2 := by
  have RU := i_up I
  rcases bd_or 40 (by decide) v1 with h1 | ⟨f, hf, rfl⟩
  · exact xg_b (Or.inl h1) u (yg_b (Or.inl h1) v ⟨rfl, RU⟩)
  rcases bd_or 2 (by decide) v2 with h2 | ⟨q, hq, rfl⟩
  · exact xg_b (Or.inr ⟨f, hf, rfl, h2⟩) u (yg_b (Or.inr ⟨f, hf, rfl, h2⟩) v ⟨rfl, RU⟩)
  obtain ⟨l1, l2⟩ := rl_lk I
  obtain ⟨T, tX, tY, hT, t1, t2, HX, HY, e0, e1⟩ := rl_f I (f := f)
  obtain ⟨σ, hs, hσ⟩ := rl_ms I
  have hF := fw_lt hT (lk_lt l2) 16 (f % 20)
  refine xg_g hf hq u (fun Q hQ => ?_)
  refine xd_ends t1 hf hT (by omega) u (fun z => (e0 z).1) (fun z => (e1 z).1) HX l2 hs ?_
  intro r u1 F1 σ1 S1 ms1 s1 C1 D1 _
  refine hQ _ _ (fun Q' hQ' => ?_)
  obtain ⟨u2, w1, w2⟩ := xd_count (v := 1 + q) (by omega) u1 S1 D1
  refine w1 _ (hQ' _ _ ?_)
  refine yg_g hf hq v (fun Q2 hQ2 => ?_)
  rw [l1] at hF hQ2
  refine yc_w (by omega) t2 hf hT (fun z => (e0 z).2) (fun z => (e1 z).2) HY (by rw [← l1]; exact l2) (fun h hh => by have := hF h (by omega) hh; omega) (fun a b c => hQ2 _ _ ⟨rfl, ?_⟩)
  exact rl_y2 a b c (rl_C I (w2.1.trans C1) (ms_M w2.2.2.2 ms1) (by omega))
/-! nextArriving -/
theorem xx_l {post : Int32 → SX → Prop} {r q : Nat} {g : Nat → Nat} {F : List Nat} (hq : q < 20) (hg : ∀ h, h < 64 → g h < 2 ^ 31) (u : SX) (S : st_Ok (bx_S u) F) (hr : dg_R (bx_S u) F r g) : ∀ d h, h + d = 64 → post ((fr_b (fun i => g i == 100 + q) d h).elim (-2) nI) u → wX_nextArriving_47 post (nI q) (nI r) (gx_active u) (gx_outPlace u) (gx_outHeader u) (gx_freeNode u) (gx_freeCount u) (gx_keptDiagram u) (gx_depth u) (gx_got u) (gx_stamp u) (gx_links u) (gx_ruleCount u) (gx_matches u) (gx_actions u) (gx_changes u) (gx_states u) (gx_places u) (gx_headers u) (gx_tables u) (gx_treated u) (gx_nodes u) (gx_following u) (gx_marked u) (gx_bucket u) (gx_now u) (gx_next u) (gx_layer u) (gx_workLevel u) (gx_workOne u) (gx_workTwo u) (gx_workPhase u) (gx_workLow u) (gx_memoStamp u) (gx_memoOne u) (gx_memoTwo u) (gx_memoLevel u) (gx_memoGot u) (d + 1) (nI h) := by
  intro d
  induction d with
  | zero =>
    intro h hh hp
    have e : h = 64 := by omega
    subst e
    exact br_t (by decide) hp
  | succ d ih =>
    intro h hh hp
    have e : (100 : Int32) + nI q = nI (100 + q) := nI_add 100 q
    refine br_f (nI_ge (b := 64) (by omega) (by decide)) ?_
    refine xd_walk (by omega) _ (gx_active u, gx_outPlace u, gx_outHeader u, gx_freeNode u, gx_freeCount u, gx_keptDiagram u, gx_depth u, gx_got u, gx_stamp u, gx_links u, gx_ruleCount u, gx_matches u, gx_actions u, gx_changes u, gx_states u, gx_places u, gx_headers u, gx_tables u, gx_treated u, gx_nodes u, gx_following u, gx_marked u, gx_bucket u, gx_now u, gx_next u, gx_layer u, gx_workLevel u, gx_workOne u, gx_workTwo u, gx_workPhase u, gx_workLow u, gx_memoStamp u, gx_memoOne u, gx_memoTwo u, gx_memoLevel u, gx_memoGot u) S hr ?_
    unfold fr_b at hp
    refine pk_eq (g h) (100 + q) (fun z => ?_) (fun z => ?_) rfl e (hg h (by omega)) (by omega)
    · rw [if_pos (by rw [beq_iff_eq]; exact z)] at hp
      exact hp
    · rw [if_neg (by rw [beq_iff_eq]; exact z)] at hp
      exact nm_r (nI_1 h) (ih (h + 1) (by omega) hp)
theorem xx_b {post : Int32 → SX → Prop} {x y z : Int32} (h : bd_o 40 x ∨ ∃ p, p < 40 ∧ x = nI p ∧ bd_o 20 y) : ∀ u : SX, post (-1) u → wpX_nextArriving post u x y z := by
  rintro ⟨f_active, f_outPlace, f_outHeader, f_freeNode, f_freeCount, f_keptDiagram, f_depth, f_got, f_stamp, a_links, a_ruleCount, a_matches, a_actions, a_changes, a_states, a_places, a_headers, a_tables, a_treated, a_nodes, a_following, a_marked, a_bucket, a_now, a_next, a_layer, a_workLevel, a_workOne, a_workTwo, a_workPhase, a_workLow, a_memoStamp, a_memoOne, a_memoTwo, a_memoLevel, a_memoGot⟩ hp
  unfold wpX_nextArriving
  rcases h with h | ⟨p, h1, rfl, h2⟩
  · refine xF_b h ?_
    exact br_t rfl hp
  · refine xF_g h1 ?_
    refine br_f (by decide) ?_
    refine xP_b h2 ?_
    exact br_t rfl hp
/-- the first header that counts -/
def na_s (z : Int32) (s : Nat) : Prop := (z < 0 ∧ s = 0) ∨ (∃ j, j < 64 ∧ z = nI j ∧ s = j + 1) ∨ (nI 64 ≤ z ∧ s = 64)
theorem xx_g {post : Int32 → SX → Prop} {f q s : Nat} {z : Int32} (hf : f < 40) (hq : q < 20) (hz : na_s z s) : ∀ u : SX, (∀ Q : Int32 → SX → Prop, (∀ r u1, (∃ n47, wX_nextArriving_47 post (nI q) r (gx_active u1) (gx_outPlace u1) (gx_outHeader u1) (gx_freeNode u1) (gx_freeCount u1) (gx_keptDiagram u1) (gx_depth u1) (gx_got u1) (gx_stamp u1) (gx_links u1) (gx_ruleCount u1) (gx_matches u1) (gx_actions u1) (gx_changes u1) (gx_states u1) (gx_places u1) (gx_headers u1) (gx_tables u1) (gx_treated u1) (gx_nodes u1) (gx_following u1) (gx_marked u1) (gx_bucket u1) (gx_now u1) (gx_next u1) (gx_layer u1) (gx_workLevel u1) (gx_workOne u1) (gx_workTwo u1) (gx_workPhase u1) (gx_workLow u1) (gx_memoStamp u1) (gx_memoOne u1) (gx_memoTwo u1) (gx_memoLevel u1) (gx_memoGot u1) n47 (nI s)) → Q r u1) → wpX_endsFrom Q u (nI f)) → wpX_nextArriving post u (nI f) (nI q) z := by
  rintro ⟨f_active, f_outPlace, f_outHeader, f_freeNode, f_freeCount, f_keptDiagram, f_depth, f_got, f_stamp, a_links, a_ruleCount, a_matches, a_actions, a_changes, a_states, a_places, a_headers, a_tables, a_treated, a_nodes, a_following, a_marked, a_bucket, a_now, a_next, a_layer, a_workLevel, a_workOne, a_workTwo, a_workPhase, a_workLow, a_memoStamp, a_memoOne, a_memoTwo, a_memoLevel, a_memoGot⟩ H
  unfold wpX_nextArriving
  refine xF_g hf ?_
  refine br_f (by decide) ?_
  refine xP_g hq ?_
  refine br_f (by decide) (H _ ?_)
  rintro r ⟨f_active2, f_outPlace2, f_outHeader2, f_freeNode2, f_freeCount2, f_keptDiagram2, f_depth2, f_got2, f_stamp2, a_links2, a_ruleCount2, a_matches2, a_actions2, a_changes2, a_states2, a_places2, a_headers2, a_tables2, a_treated2, a_nodes2, a_following2, a_marked2, a_bucket2, a_now2, a_next2, a_layer2, a_workLevel2, a_workOne2, a_workTwo2, a_workPhase2, a_workLow2, a_memoStamp2, a_memoOne2, a_memoTwo2, a_memoLevel2, a_memoGot2⟩ h
  rcases hz with ⟨z1, rfl⟩ | ⟨j, hj, rfl, rfl⟩ | ⟨z1, rfl⟩
  · exact br_f (Int32.not_le.mpr z1) h
  · exact br_t (nI_pos' (by omega)) (br_t (nI_lt (b := 64) hj (by decide)) (nm_r (nI_1 j) h))
  · exact br_t (Int32.not_lt.mp (bd_nn (by decide) z1)) (br_f (Int32.not_lt.mpr z1) h)
theorem yx_b {post : Int32 → SY → Prop} {x y z : Int32} (h : bd_o 40 x ∨ ∃ p, p < 40 ∧ x = nI p ∧ bd_o 20 y) : ∀ v : SY, post (-1) v → wpY_nextArriving post v x y z := by
  rintro ⟨f_active, f_outPlace, f_outHeader, f_seen, a_links, a_sizes, a_matches, a_actions, a_changes, a_states, a_places, a_headers, a_tables, a_treated⟩ hp
  unfold wpY_nextArriving
  rcases h with h | ⟨p, h1, rfl, h2⟩
  · refine yF_b h _ ?_
    exact br_f (by decide) hp
  · refine yF_g h1 _ ?_
    refine br_t rfl ?_
    refine yP_b h2 _ ?_
    exact br_f (by decide) hp
theorem yx_g {post : Int32 → SY → Prop} {f q : Nat} {z : Int32} (hf : f < 40) (hq : q < 20) : ∀ v : SY, (∃ n21, wY_nextArriving_21 post (nI f) (nI q) z n21 (nI 0) (gy_active v) (gy_outPlace v) (gy_outHeader v) (gy_seen v) (gy_links v) (gy_sizes v) (gy_matches v) (gy_actions v) (gy_changes v) (gy_states v) (gy_places v) (gy_headers v) (gy_tables v) (gy_treated v)) → wpY_nextArriving post v (nI f) (nI q) z := by
  rintro ⟨f_active, f_outPlace, f_outHeader, f_seen, a_links, a_sizes, a_matches, a_actions, a_changes, a_states, a_places, a_headers, a_tables, a_treated⟩ H
  unfold wpY_nextArriving
  refine yF_g hf _ ?_
  refine br_t rfl ?_
  refine yP_g hq _ ?_
  exact br_t rfl H
theorem yx_s {post : Int32 → SY → Prop} {n h q : Nat} {x1 x3 : Int32} (hh : h < 64) (hx : ¬ nI h ≤ x3) : ∀ v : SY, (∀ Q : Int32 → SY → Prop, (∀ r v', ((r = nI (100 + q) → post (nI h) v') ∧ (¬ r = nI (100 + q) → wY_nextArriving_21 post x1 (nI q) x3 n (nI (h + 1)) (gy_active v') (gy_outPlace v') (gy_outHeader v') (gy_seen v') (gy_links v') (gy_sizes v') (gy_matches v') (gy_actions v') (gy_changes v') (gy_states v') (gy_places v') (gy_headers v') (gy_tables v') (gy_treated v'))) → Q r v') → wpY_follow Q v x1 (nI h)) → wY_nextArriving_21 post x1 (nI q) x3 (n + 1) (nI h) (gy_active v) (gy_outPlace v) (gy_outHeader v) (gy_seen v) (gy_links v) (gy_sizes v) (gy_matches v) (gy_actions v) (gy_changes v) (gy_states v) (gy_places v) (gy_headers v) (gy_tables v) (gy_treated v) := by
  rintro ⟨f_active, f_outPlace, f_outHeader, f_seen, a_links, a_sizes, a_matches, a_actions, a_changes, a_states, a_places, a_headers, a_tables, a_treated⟩ H
  have e : (100 : Int32) + nI q = nI (100 + q) := nI_add 100 q
  have key : wY_nextArriving_21 post x1 (nI q) x3 (n + 1) (nI h) f_active f_outPlace f_outHeader f_seen a_links a_sizes a_matches a_actions a_changes a_states a_places a_headers a_tables a_treated := by
    refine br_f (nI_ge (b := 64) hh (by decide)) (br_f hx (H _ ?_))
    rintro r ⟨f_active2, f_outPlace2, f_outHeader2, f_seen2, a_links2, a_sizes2, a_matches2, a_actions2, a_changes2, a_states2, a_places2, a_headers2, a_tables2, a_treated2⟩ h'
    rw [e]
    exact br_c (fun z => h'.1 z) (fun z => nm_r (nI_1 h) (h'.2 z))
  exact key
theorem na_le {z : Int32} {s : Nat} (H : na_s z s) : s ≤ 64 ∧ ∀ h, h < 64 → (nI h ≤ z ↔ h < s) := by
  rcases H with ⟨z1, rfl⟩ | ⟨j, hj, rfl, rfl⟩ | ⟨z1, rfl⟩
  · refine ⟨by omega, fun h hh => ⟨fun y => ?_, fun y => absurd y (by omega)⟩⟩
    exact absurd (Int32.lt_of_le_of_lt y z1) (nI_pos (by omega))
  · refine ⟨by omega, fun h hh => ?_⟩
    rw [nI_leI (by omega) (by omega)]
    omega
  · refine ⟨by omega, fun h hh => ⟨fun _ => hh, fun _ => ?_⟩⟩
    exact Int32.le_trans (nI_le (show h ≤ 64 by omega) (by decide)) z1
theorem yx_l {post : Int32 → SY → Prop} {T : TB} {t f q s : Nat} {v : SY} {z : Int32} (hq : q < 20) (hz : na_s z s) (ht : t < 4) (hf : f < 40) (hT : tb_Ok T) (h1 : 20 ≤ f → t = 0) (h2 : f < 20 → gy_active v = nI t) (H : ty_Hd v t T) (hl : lk_Ok (gy_links v)) (hF : ∀ h, h < 64 → fw_e (lk_f (gy_links v)) T 16 (f % 20) h < 2 ^ 31) (hp : ∀ a b c, post ((fr_b (fun i => fw_e (lk_f (gy_links v)) T 16 (f % 20) i == 100 + q) (64 - s) s).elim (-2) nI) (sy_ohs v a b c)) : ∀ d h, h + d = 64 → ∀ (a b c : Int32), (s ≤ h → fr_b (fun i => fw_e (lk_f (gy_links v)) T 16 (f % 20) i == 100 + q) d h = fr_b (fun i => fw_e (lk_f (gy_links v)) T 16 (f % 20) i == 100 + q) (64 - s) s) → wY_nextArriving_21 post (nI f) (nI q) z (d + 1) (nI h) (gy_active (sy_ohs v a b c)) (gy_outPlace (sy_ohs v a b c)) (gy_outHeader (sy_ohs v a b c)) (gy_seen (sy_ohs v a b c)) (gy_links (sy_ohs v a b c)) (gy_sizes (sy_ohs v a b c)) (gy_matches (sy_ohs v a b c)) (gy_actions (sy_ohs v a b c)) (gy_changes (sy_ohs v a b c)) (gy_states (sy_ohs v a b c)) (gy_places (sy_ohs v a b c)) (gy_headers (sy_ohs v a b c)) (gy_tables (sy_ohs v a b c)) (gy_treated (sy_ohs v a b c)) := by
  have hn := na_le hz
  intro d
  induction d with
  | zero =>
    intro h hh a b c hfr
    have e : h = 64 := by omega
    subst e
    have := hp a b c
    rw [← hfr (by omega)] at this
    exact br_t (by decide) this
  | succ d ih =>
    intro h hh a b c hfr
    by_cases hs : h < s
    · refine br_f (nI_ge (b := 64) (by omega) (by decide)) (br_t ((hn.2 h (by omega)).mpr hs) (nm_r (nI_1 h) (ih (h + 1) (by omega) a b c (fun y => ?_))))
      have e : h + 1 = s := by omega
      rw [e, show d = 64 - s by omega]
    · refine yx_s (by omega) (fun y => hs ((hn.2 h (by omega)).mp y)) _ (fun Q hQ => ?_)
      have hfr' := hfr (by omega)
      refine yf_f (T := T) (t := t) ht hf (by omega) hT Q (sy_ohs v a b c) h1 h2 H hl (fun a' b' c' _ => hQ _ _ ?_)
      show ((nI (fw_e (lk_f (gy_links v)) T 16 (f % 20) h) = nI (100 + q) → _) ∧ _)
      refine pk_eq (fw_e (lk_f (gy_links v)) T 16 (f % 20) h) (100 + q) (fun y => ?_) (fun y => ?_) rfl rfl (hF h (by omega)) (by omega)
      · have := hp a' b' c'
        rw [← hfr'] at this
        unfold fr_b at this
        rw [if_pos (by rw [beq_iff_eq]; exact y)] at this
        exact this
      · refine ih (h + 1) (by omega) a' b' c' (fun _ => ?_)
        rw [← hfr']
        conv => rhs; unfold fr_b
        rw [if_neg (by rw [beq_iff_eq]; exact y)]
theorem na_ex (z : Int32) : ∃ s, na_s z s := by
  rcases bd_or 64 (by decide) z with (h | h) | ⟨j, hj, e⟩
  · exact ⟨0, Or.inl ⟨h, rfl⟩⟩
  · exact ⟨64, Or.inr (Or.inr ⟨h, rfl⟩)⟩
  · exact ⟨j + 1, Or.inr (Or.inl ⟨j, hj, e, rfl⟩)⟩
theorem i_vc_nextArriving {k : Nat} {u : SX} {v : SY} (I : i_Rel k u v) (hk : k + 5 ≤ 2560) (v1 : Int32) (v2 : Int32) (v3 : Int32) : wpX_nextArriving (fun r u' => wpY_nextArriving (fun r' v' => r' = r ∧ i_Rel (k + 5) u' v') v v1 v2 v3) u v1 v2 v3 := by
  have RU := i_up I
  rcases bd_or 40 (by decide) v1 with h1 | ⟨f, hf, rfl⟩
  · exact xx_b (Or.inl h1) u (yx_b (Or.inl h1) v ⟨rfl, RU⟩)
  rcases bd_or 20 (by decide) v2 with h2 | ⟨q, hq, rfl⟩
  · exact xx_b (Or.inr ⟨f, hf, rfl, h2⟩) u (yx_b (Or.inr ⟨f, hf, rfl, h2⟩) v ⟨rfl, RU⟩)
  obtain ⟨l1, l2⟩ := rl_lk I
  obtain ⟨T, tX, tY, hT, t1, t2, HX, HY, e0, e1⟩ := rl_f I (f := f)
  obtain ⟨σ, hs, hσ⟩ := rl_ms I
  obtain ⟨s, hz⟩ := na_ex v3
  have hsl := (na_le hz).1
  have hF := fw_lt hT (lk_lt l2) 16 (f % 20)
  refine xx_g hf hq hz u (fun Q hQ => ?_)
  refine xd_ends t1 hf hT (by omega) u (fun z => (e0 z).1) (fun z => (e1 z).1) HX l2 hs ?_
  intro r u1 F1 σ1 S1 ms1 s1 C1 D1 _
  refine hQ _ _ ⟨64 - s + 1, xx_l hq (fun h hh => by have := hF h (by omega) hh; omega) u1 S1 D1 (64 - s) s (by omega) ?_⟩
  refine yx_g hf hq v ⟨65, ?_⟩
  rw [l1] at hF ⊢
  refine yx_l (T := T) (t := tY) hq hz t2 hf hT (fun z => (e0 z).2) (fun z => (e1 z).2) HY (by rw [← l1]; exact l2) (fun h hh => by have := hF h (by omega) hh; omega) (fun a b c => ⟨rfl, rl_y2 a b c (rl_C I C1 ms1 (by omega))⟩) 64 0 (by omega) (gy_outPlace v) (gy_outHeader v) (gy_seen v) (fun y => ?_)
  have e : s = 0 := by omega
  rw [e]
end
section
/-! visiting, differing -/
theorem xu_b {post : Int32 → SX → Prop} {x y : Int32} (h : bd_o 40 x ∨ ∃ p, p < 40 ∧ x = nI p ∧ bd_o 5 y) : ∀ u : SX, post (-1) u → wpX_visiting post u x y := by
  rintro ⟨f_active, f_outPlace, f_outHeader, f_freeNode, f_freeCount, f_keptDiagram, f_depth, f_got, f_stamp, a_links, a_ruleCount, a_matches, a_actions, a_changes, a_states, a_places, a_headers, a_tables, a_treated, a_nodes, a_following, a_marked, a_bucket, a_now, a_next, a_layer, a_workLevel, a_workOne, a_workTwo, a_workPhase, a_workLow, a_memoStamp, a_memoOne, a_memoTwo, a_memoLevel, a_memoGot⟩ hp
  unfold wpX_visiting
  rcases h with h | ⟨p, h1, rfl, h2⟩
  · refine xF_b h ?_
    exact br_t rfl hp
  · refine xF_g h1 ?_
    refine br_f (by decide) ?_
    refine xS_b h2 ?_
    exact br_t rfl hp
theorem xu_g {post : Int32 → SX → Prop} {f s : Nat} (hf : f < 40) (hs : s < 5) : ∀ u : SX, (∀ Q : SX → Prop, (∀ u1 : SX, (∀ Q1 : Int32 → Prop, (∀ r : Int32, (∀ Q2 : SX → Prop, (∀ u2 : SX, (∀ Q3 : Int32 → SX → Prop, (∀ r' u', post r' u' → Q3 r' u') → wpX_countOf Q3 u2 (gx_now u2 (f % 20)) 1) → Q2 u2) → wpX_solve Q2 u1 r (nI s)) → Q1 r) → wpX_tableFor Q1 u1 (nI f)) → Q u1) → wpX_reset Q u) → wpX_visiting post u (nI f) (nI s) := by
  rintro ⟨f_active, f_outPlace, f_outHeader, f_freeNode, f_freeCount, f_keptDiagram, f_depth, f_got, f_stamp, a_links, a_ruleCount, a_matches, a_actions, a_changes, a_states, a_places, a_headers, a_tables, a_treated, a_nodes, a_following, a_marked, a_bucket, a_now, a_next, a_layer, a_workLevel, a_workOne, a_workTwo, a_workPhase, a_workLow, a_memoStamp, a_memoOne, a_memoTwo, a_memoLevel, a_memoGot⟩ H
  have e20 : nI f - nI f / 20 * 20 = nI (f % 20) := nb_r20 (by omega)
  have hv : vp_in (nI (f % 20)) 20 := vp_in_nI (by omega) (by decide)
  have hc : (nI (f % 20)).toNatClampNeg = f % 20 := nI_clamp (by omega)
  unfold wpX_visiting
  dsimp only
  rw [e20, hc]
  refine xF_g hf ?_
  refine br_f (by decide) ?_
  refine xS_g hs ?_
  refine br_f (by decide) (H _ ?_)
  rintro ⟨f_active2, f_outPlace2, f_outHeader2, f_freeNode2, f_freeCount2, f_keptDiagram2, f_depth2, f_got2, f_stamp2, a_links2, a_ruleCount2, a_matches2, a_actions2, a_changes2, a_states2, a_places2, a_headers2, a_tables2, a_treated2, a_nodes2, a_following2, a_marked2, a_bucket2, a_now2, a_next2, a_layer2, a_workLevel2, a_workOne2, a_workTwo2, a_workPhase2, a_workLow2, a_memoStamp2, a_memoOne2, a_memoTwo2, a_memoLevel2, a_memoGot2⟩ h1
  refine h1 _ ?_
  intro r h2
  refine h2 _ ?_
  rintro ⟨f_active3, f_outPlace3, f_outHeader3, f_freeNode3, f_freeCount3, f_keptDiagram3, f_depth3, f_got3, f_stamp3, a_links3, a_ruleCount3, a_matches3, a_actions3, a_changes3, a_states3, a_places3, a_headers3, a_tables3, a_treated3, a_nodes3, a_following3, a_marked3, a_bucket3, a_now3, a_next3, a_layer3, a_workLevel3, a_workOne3, a_workTwo3, a_workPhase3, a_workLow3, a_memoStamp3, a_memoOne3, a_memoTwo3, a_memoLevel3, a_memoGot3⟩ h3
  refine And.intro (by decide) (And.intro hv (h3 _ ?_))
  rintro r' ⟨f_active4, f_outPlace4, f_outHeader4, f_freeNode4, f_freeCount4, f_keptDiagram4, f_depth4, f_got4, f_stamp4, a_links4, a_ruleCount4, a_matches4, a_actions4, a_changes4, a_states4, a_places4, a_headers4, a_tables4, a_treated4, a_nodes4, a_following4, a_marked4, a_bucket4, a_now4, a_next4, a_layer4, a_workLevel4, a_workOne4, a_workTwo4, a_workPhase4, a_workLow4, a_memoStamp4, a_memoOne4, a_memoTwo4, a_memoLevel4, a_memoGot4⟩ h4
  exact h4
theorem yu_b {post : Int32 → SY → Prop} {x y : Int32} (h : bd_o 40 x ∨ ∃ p, p < 40 ∧ x = nI p ∧ bd_o 5 y) : ∀ v : SY, post (-1) v → wpY_visiting post v x y := by
  rintro ⟨f_active, f_outPlace, f_outHeader, f_seen, a_links, a_sizes, a_matches, a_actions, a_changes, a_states, a_places, a_headers, a_tables, a_treated⟩ hp
  unfold wpY_visiting
  rcases h with h | ⟨p, h1, rfl, h2⟩
  · refine yF_b h _ ?_
    exact br_f (by decide) hp
  · refine yF_g h1 _ ?_
    refine br_t rfl ?_
    exact c4_b 4 (by decide) h2 hp
theorem yu_g {post : Int32 → SY → Prop} {f s : Nat} (hf : f < 40) (hs : s < 5) : ∀ v : SY, (∃ n24, wY_visiting_24 post (nI f) (nI s) n24 (nI 0) (nI 0) (gy_active v) (gy_outPlace v) (gy_outHeader v) (gy_seen v) (gy_links v) (gy_sizes v) (gy_matches v) (gy_actions v) (gy_changes v) (gy_states v) (gy_places v) (gy_headers v) (gy_tables v) (gy_treated v)) → wpY_visiting post v (nI f) (nI s) := by
  rintro ⟨f_active, f_outPlace, f_outHeader, f_seen, a_links, a_sizes, a_matches, a_actions, a_changes, a_states, a_places, a_headers, a_tables, a_treated⟩ H
  unfold wpY_visiting
  refine yF_g hf _ ?_
  refine br_t rfl ?_
  exact c4_g 4 (by decide) hs H
theorem yu_s {post : Int32 → SY → Prop} {n c h s : Nat} {x1 : Int32} (hh : h < 64) (hs : s < 5) : ∀ v : SY, (∀ Q : Int32 → SY → Prop, (∀ r (v' : SY), ((bt (gy_seen v') s = true → wY_visiting_24 post x1 (nI s) n (nI (c + 1)) (nI (h + 1)) (gy_active v') (gy_outPlace v') (gy_outHeader v') (gy_seen v') (gy_links v') (gy_sizes v') (gy_matches v') (gy_actions v') (gy_changes v') (gy_states v') (gy_places v') (gy_headers v') (gy_tables v') (gy_treated v')) ∧ (¬ bt (gy_seen v') s = true → wY_visiting_24 post x1 (nI s) n (nI c) (nI (h + 1)) (gy_active v') (gy_outPlace v') (gy_outHeader v') (gy_seen v') (gy_links v') (gy_sizes v') (gy_matches v') (gy_actions v') (gy_changes v') (gy_states v') (gy_places v') (gy_headers v') (gy_tables v') (gy_treated v'))) → Q r v') → wpY_follow Q v x1 (nI h)) → wY_visiting_24 post x1 (nI s) (n + 1) (nI c) (nI h) (gy_active v) (gy_outPlace v) (gy_outHeader v) (gy_seen v) (gy_links v) (gy_sizes v) (gy_matches v) (gy_actions v) (gy_changes v) (gy_states v) (gy_places v) (gy_headers v) (gy_tables v) (gy_treated v) := by
  rintro ⟨f_active, f_outPlace, f_outHeader, f_seen, a_links, a_sizes, a_matches, a_actions, a_changes, a_states, a_places, a_headers, a_tables, a_treated⟩ H
  have key : wY_visiting_24 post x1 (nI s) (n + 1) (nI c) (nI h) f_active f_outPlace f_outHeader f_seen a_links a_sizes a_matches a_actions a_changes a_states a_places a_headers a_tables a_treated := by
    refine br_f (nI_ge (b := 64) hh (by decide)) (H _ ?_)
    rintro r ⟨f_active2, f_outPlace2, f_outHeader2, f_seen2, a_links2, a_sizes2, a_matches2, a_actions2, a_changes2, a_states2, a_places2, a_headers2, a_tables2, a_treated2⟩ h'
    exact br_c (fun z => nm_r (nI_1 c) (nm_r (nI_1 _) (h'.1 ((bt_sh1 f_seen2 (by omega)).mp z)))) (fun z => nm_r (nI_1 _) (h'.2 (fun y => z ((bt_sh1 f_seen2 (by omega)).mpr y))))
  exact key
theorem yu_l {post : Int32 → SY → Prop} {T : TB} {t f s : Nat} {v : SY} (hs : s < 5) (ht : t < 4) (hf : f < 40) (hT : tb_Ok T) (h1 : 20 ≤ f → t = 0) (h2 : f < 20 → gy_active v = nI t) (H : ty_Hd v t T) (hl : lk_Ok (gy_links v)) : ∀ d h, h + d = 64 → ∀ (a b c : Int32) (n : Nat), (∀ a b c, post (nI (n + ks_f (fun i => fw_s (lk_f (gy_links v)) T s 16 (f % 20) i == 1) d h)) (sy_ohs v a b c)) → wY_visiting_24 post (nI f) (nI s) (d + 1) (nI n) (nI h) (gy_active (sy_ohs v a b c)) (gy_outPlace (sy_ohs v a b c)) (gy_outHeader (sy_ohs v a b c)) (gy_seen (sy_ohs v a b c)) (gy_links (sy_ohs v a b c)) (gy_sizes (sy_ohs v a b c)) (gy_matches (sy_ohs v a b c)) (gy_actions (sy_ohs v a b c)) (gy_changes (sy_ohs v a b c)) (gy_states (sy_ohs v a b c)) (gy_places (sy_ohs v a b c)) (gy_headers (sy_ohs v a b c)) (gy_tables (sy_ohs v a b c)) (gy_treated (sy_ohs v a b c)) := by
  intro d
  induction d with
  | zero =>
    intro h hh a b c n hp
    have e' : h = 64 := by omega
    subst e'
    exact br_t (by decide) (hp a b c)
  | succ d ih =>
    intro h hh a b c n hp
    refine yu_s (by omega) hs _ (fun Q hQ => ?_)
    refine yf_f (T := T) (t := t) ht hf (by omega) hT Q (sy_ohs v a b c) h1 h2 H hl (fun a' b' c' hc' => hQ _ _ ?_)
    have ec : bt c' s = (fw_s (lk_f (gy_links v)) T s 16 (f % 20) h == 1) := hc' s hs
    show ((bt c' s = true → _) ∧ (¬ bt c' s = true → _))
    refine ⟨fun z => ?_, fun z => ?_⟩
    · refine ih (h + 1) (by omega) a' b' c' (n + 1) (fun a b c => ?_)
      have := hp a b c
      change post (nI (n + ((fw_s (lk_f (gy_links v)) T s 16 (f % 20) h == 1).toNat + ks_f (fun i => fw_s (lk_f (gy_links v)) T s 16 (f % 20) i == 1) d (h + 1)))) _ at this
      rw [← ec, z, ← Nat.add_assoc] at this
      exact this
    · have z' : bt c' s = false := by
        cases q : bt c' s
        · rfl
        · exact absurd q z
      refine ih (h + 1) (by omega) a' b' c' n (fun a b c => ?_)
      have := hp a b c
      change post (nI (n + ((fw_s (lk_f (gy_links v)) T s 16 (f % 20) h == 1).toNat + ks_f (fun i => fw_s (lk_f (gy_links v)) T s 16 (f % 20) i == 1) d (h + 1)))) _ at this
      rw [← ec, z'] at this
      change post (nI (n + (0 + ks_f (fun i => fw_s (lk_f (gy_links v)) T s 16 (f % 20) i == 1) d (h + 1)))) _ at this
      rw [Nat.zero_add] at this
      exact this
theorem i_vc_visiting {k : Nat} {u : SX} {v : SY} (I : i_Rel k u v) (hk : k + 5 ≤ 2560) (v1 : Int32) (v2 : Int32) : wpX_visiting (fun r u' => wpY_visiting (fun r' v' => r' = r ∧ i_Rel (k + 5) u' v') v v1 v2) u v1 v2 := by
  have RU := i_up I
  rcases bd_or 40 (by decide) v1 with h1 | ⟨f, hf, rfl⟩
  · exact xu_b (Or.inl h1) u (yu_b (Or.inl h1) v ⟨rfl, RU⟩)
  rcases bd_or 5 (by decide) v2 with h2 | ⟨s, hs5, rfl⟩
  · exact xu_b (Or.inr ⟨f, hf, rfl, h2⟩) u (yu_b (Or.inr ⟨f, hf, rfl, h2⟩) v ⟨rfl, RU⟩)
  obtain ⟨l1, l2⟩ := rl_lk I
  obtain ⟨T, tX, tY, hT, t1, t2, HX, HY, e0, e1⟩ := rl_f I (f := f)
  obtain ⟨σ, hs, hσ⟩ := rl_ms I
  refine xu_g hf hs5 u (fun Q hQ => ?_)
  refine xz_reset u (fun u1 S1 C1 M1 K1 => hQ u1 (fun Q1 hQ1 => ?_))
  refine xF_t (t := tX) hf u1 (fun z => (e0 z).1) (fun z => by rw [xC_a C1]; exact (e1 z).1) (hQ1 _ (fun Q2 hQ2 => ?_))
  have hl1 : lk_Ok (gx_links u1) := by rw [xC_links C1]; exact l2
  refine xd_solve (g := some s) (kd := none) (fk := fun _ => 0) (σ := σ) (fm := 243) (F := List.range' 0 4096) (Nat.le_refl _) (fun s' hs' => by rw [← Option.some.inj hs']; exact hs5) t1 hT (by omega) u1 (xC_Hd C1 HX) hl1 S1 (ms_M M1 hs) K1 (fun r hr => absurd hr (by simp)) (by rw [List.length_range']; omega) ?_
  intro u2 F2 σ2 nw hI h3 h4
  obtain ⟨S2, ms2, C2, n2, k2, f2⟩ := hI
  have hn := n2 (f % 20) (by omega)
  refine hQ2 u2 (fun Q3 hQ3 => ?_)
  rw [xC_links C1] at hn
  rw [hn.1]
  obtain ⟨u3, w1, w2⟩ := xd_count (v := 1) (by omega) u2 S2 hn.2
  refine w1 _ (hQ3 _ _ ?_)
  refine yu_g hf hs5 v ⟨65, ?_⟩
  have ek : ks_f (fun i => fw_s (lk_f (gy_links v)) T s 16 (f % 20) i == 1) 64 0 = cn_r 64 (fun i => fw_s (lk_f (gy_links v)) T s 16 (f % 20) i == 1) := by
    rw [ks_r]
    exact cn_r_cg _ _ _ (fun i _ => by rw [Nat.zero_add])
  refine yu_l (T := T) (t := tY) hs5 t2 hf hT (fun z => (e0 z).2) (fun z => (e1 z).2) HY (by rw [← l1]; exact l2) 64 0 (by omega) (gy_outPlace v) (gy_outHeader v) (gy_seen v) 0 (fun a b c => ⟨?_, rl_y2 a b c (rl_C I (w2.1.trans (C2.trans C1)) (ms_M w2.2.2.2 ms2) (by omega))⟩)
  rw [Nat.zero_add, ek, l1]
  rfl
theorem xq_b {post : Int32 → SX → Prop} {x : Int32} (h : bd_o 20 x) : ∀ u : SX, post (-1) u → wpX_differing post u x := by
  rintro ⟨f_active, f_outPlace, f_outHeader, f_freeNode, f_freeCount, f_keptDiagram, f_depth, f_got, f_stamp, a_links, a_ruleCount, a_matches, a_actions, a_changes, a_states, a_places, a_headers, a_tables, a_treated, a_nodes, a_following, a_marked, a_bucket, a_now, a_next, a_layer, a_workLevel, a_workOne, a_workTwo, a_workPhase, a_workLow, a_memoStamp, a_memoOne, a_memoTwo, a_memoLevel, a_memoGot⟩ hp
  unfold wpX_differing
  refine xP_b h ?_
  exact br_t rfl hp
theorem xq_g {post : Int32 → SX → Prop} {p : Nat} (hp : p < 20) : ∀ u : SX, (∀ Q : Int32 → SX → Prop, (∀ r (u1 : SX), (∀ Q2 : SX → Prop, (∀ u2 : SX, (∀ Q3 : Int32 → SX → Prop, (∀ r' u', post r' u' → Q3 r' u') → wpX_differences Q3 u2 r (gx_now u2 p)) → Q2 u2) → wpX_solve Q2 (sx_kept u1 r) 0 (-1)) → Q r u1) → wpX_endsFrom Q u (nI p)) → wpX_differing post u (nI p) := by
  rintro ⟨f_active, f_outPlace, f_outHeader, f_freeNode, f_freeCount, f_keptDiagram, f_depth, f_got, f_stamp, a_links, a_ruleCount, a_matches, a_actions, a_changes, a_states, a_places, a_headers, a_tables, a_treated, a_nodes, a_following, a_marked, a_bucket, a_now, a_next, a_layer, a_workLevel, a_workOne, a_workTwo, a_workPhase, a_workLow, a_memoStamp, a_memoOne, a_memoTwo, a_memoLevel, a_memoGot⟩ H
  have hv : vp_in (nI p) 20 := vp_in_nI hp (by decide)
  have hc : (nI p).toNatClampNeg = p := nI_clamp (by omega)
  unfold wpX_differing
  dsimp only
  rw [hc]
  refine xP_g hp ?_
  refine br_f (by decide) (H _ ?_)
  rintro r ⟨f_active2, f_outPlace2, f_outHeader2, f_freeNode2, f_freeCount2, f_keptDiagram2, f_depth2, f_got2, f_stamp2, a_links2, a_ruleCount2, a_matches2, a_actions2, a_changes2, a_states2, a_places2, a_headers2, a_tables2, a_treated2, a_nodes2, a_following2, a_marked2, a_bucket2, a_now2, a_next2, a_layer2, a_workLevel2, a_workOne2, a_workTwo2, a_workPhase2, a_workLow2, a_memoStamp2, a_memoOne2, a_memoTwo2, a_memoLevel2, a_memoGot2⟩ h1
  refine h1 _ ?_
  rintro ⟨f_active3, f_outPlace3, f_outHeader3, f_freeNode3, f_freeCount3, f_keptDiagram3, f_depth3, f_got3, f_stamp3, a_links3, a_ruleCount3, a_matches3, a_actions3, a_changes3, a_states3, a_places3, a_headers3, a_tables3, a_treated3, a_nodes3, a_following3, a_marked3, a_bucket3, a_now3, a_next3, a_layer3, a_workLevel3, a_workOne3, a_workTwo3, a_workPhase3, a_workLow3, a_memoStamp3, a_memoOne3, a_memoTwo3, a_memoLevel3, a_memoGot3⟩ h2
  refine And.intro hv (h2 _ ?_)
  rintro r' ⟨f_active4, f_outPlace4, f_outHeader4, f_freeNode4, f_freeCount4, f_keptDiagram4, f_depth4, f_got4, f_stamp4, a_links4, a_ruleCount4, a_matches4, a_actions4, a_changes4, a_states4, a_places4, a_headers4, a_tables4, a_treated4, a_nodes4, a_following4, a_marked4, a_bucket4, a_now4, a_next4, a_layer4, a_workLevel4, a_workOne4, a_workTwo4, a_workPhase4, a_workLow4, a_memoStamp4, a_memoOne4, a_memoTwo4, a_memoLevel4, a_memoGot4⟩ h4
  exact h4
theorem yq_b {post : Int32 → SY → Prop} {x : Int32} (h : bd_o 20 x) : ∀ v : SY, post (-1) v → wpY_differing post v x := by
  rintro ⟨f_active, f_outPlace, f_outHeader, f_seen, a_links, a_sizes, a_matches, a_actions, a_changes, a_states, a_places, a_headers, a_tables, a_treated⟩ hp
  unfold wpY_differing
  refine yP_b h _ ?_
  exact br_f (by decide) hp
theorem yq_g {post : Int32 → SY → Prop} {p : Nat} (hp : p < 20) : ∀ v : SY, (∃ n14, wY_differing_14 post (nI p) n14 (nI 0) (nI 0) (gy_active v) (gy_outPlace v) (gy_outHeader v) (gy_seen v) (gy_links v) (gy_sizes v) (gy_matches v) (gy_actions v) (gy_changes v) (gy_states v) (gy_places v) (gy_headers v) (gy_tables v) (gy_treated v)) → wpY_differing post v (nI p) := by
  rintro ⟨f_active, f_outPlace, f_outHeader, f_seen, a_links, a_sizes, a_matches, a_actions, a_changes, a_states, a_places, a_headers, a_tables, a_treated⟩ H
  unfold wpY_differing
  refine yP_g hp _ ?_
  exact br_t rfl H
theorem yq_s {post : Int32 → SY → Prop} {n c h p : Nat} (hh : h < 64) : ∀ v : SY, (∀ Q : Int32 → SY → Prop, (∀ r (v1 : SY), (∀ Q' : Int32 → SY → Prop, (∀ r' v', ((r = r' → wY_differing_14 post (nI p) n (nI c) (nI (h + 1)) (gy_active v') (gy_outPlace v') (gy_outHeader v') (gy_seen v') (gy_links v') (gy_sizes v') (gy_matches v') (gy_actions v') (gy_changes v') (gy_states v') (gy_places v') (gy_headers v') (gy_tables v') (gy_treated v')) ∧ (¬ r = r' → wY_differing_14 post (nI p) n (nI (c + 1)) (nI (h + 1)) (gy_active v') (gy_outPlace v') (gy_outHeader v') (gy_seen v') (gy_links v') (gy_sizes v') (gy_matches v') (gy_actions v') (gy_changes v') (gy_states v') (gy_places v') (gy_headers v') (gy_tables v') (gy_treated v'))) → Q' r' v') → wpY_follow Q' v1 (nI (p + 20)) (nI h)) → Q r v1) → wpY_follow Q v (nI p) (nI h)) → wY_differing_14 post (nI p) (n + 1) (nI c) (nI h) (gy_active v) (gy_outPlace v) (gy_outHeader v) (gy_seen v) (gy_links v) (gy_sizes v) (gy_matches v) (gy_actions v) (gy_changes v) (gy_states v) (gy_places v) (gy_headers v) (gy_tables v) (gy_treated v) := by
  rintro ⟨f_active, f_outPlace, f_outHeader, f_seen, a_links, a_sizes, a_matches, a_actions, a_changes, a_states, a_places, a_headers, a_tables, a_treated⟩ H
  have e : nI p + 20 = nI (p + 20) := nI_add p 20
  have key : wY_differing_14 post (nI p) (n + 1) (nI c) (nI h) f_active f_outPlace f_outHeader f_seen a_links a_sizes a_matches a_actions a_changes a_states a_places a_headers a_tables a_treated := by
    refine br_f (nI_ge (b := 64) hh (by decide)) ?_
    rw [e]
    refine H _ ?_
    rintro r ⟨f_active2, f_outPlace2, f_outHeader2, f_seen2, a_links2, a_sizes2, a_matches2, a_actions2, a_changes2, a_states2, a_places2, a_headers2, a_tables2, a_treated2⟩ h1
    refine h1 _ ?_
    rintro r' ⟨f_active3, f_outPlace3, f_outHeader3, f_seen3, a_links3, a_sizes3, a_matches3, a_actions3, a_changes3, a_states3, a_places3, a_headers3, a_tables3, a_treated3⟩ h2
    exact br_c (fun z => nm_r (nI_1 _) (h2.1 z)) (fun z => nm_r (nI_1 c) (nm_r (nI_1 _) (h2.2 z)))
  exact key
theorem yq_l {post : Int32 → SY → Prop} {T T' : TB} {t p : Nat} {v : SY} (hp' : p < 20) (ht : t < 4) (hT : tb_Ok T) (hT' : tb_Ok T') (h2 : gy_active v = nI t) (H : ty_Hd v t T) (H' : ty_Hd v 0 T') (hl : lk_Ok (gy_links v)) : ∀ d h, h + d = 64 → ∀ (a b c : Int32) (n : Nat), (∀ a b c, post (nI (n + ks_f (fun i => !(fw_e (lk_f (gy_links v)) T 16 p i == fw_e (lk_f (gy_links v)) T' 16 p i)) d h)) (sy_ohs v a b c)) → wY_differing_14 post (nI p) (d + 1) (nI n) (nI h) (gy_active (sy_ohs v a b c)) (gy_outPlace (sy_ohs v a b c)) (gy_outHeader (sy_ohs v a b c)) (gy_seen (sy_ohs v a b c)) (gy_links (sy_ohs v a b c)) (gy_sizes (sy_ohs v a b c)) (gy_matches (sy_ohs v a b c)) (gy_actions (sy_ohs v a b c)) (gy_changes (sy_ohs v a b c)) (gy_states (sy_ohs v a b c)) (gy_places (sy_ohs v a b c)) (gy_headers (sy_ohs v a b c)) (gy_tables (sy_ohs v a b c)) (gy_treated (sy_ohs v a b c)) := by
  have m1 : p % 20 = p := Nat.mod_eq_of_lt hp'
  have m2 : (p + 20) % 20 = p := by omega
  have F1 := fw_lt hT (lk_lt hl) 16 p
  have F2 := fw_lt hT' (lk_lt hl) 16 p
  intro d
  induction d with
  | zero =>
    intro h hh a b c n hp
    have e' : h = 64 := by omega
    subst e'
    exact br_t (by decide) (hp a b c)
  | succ d ih =>
    intro h hh a b c n hp
    refine yq_s (by omega) _ (fun Q hQ => ?_)
    refine yf_f (T := T) (t := t) (f := p) ht (by omega) (by omega) hT Q (sy_ohs v a b c) (fun z => absurd z (by omega)) (fun _ => h2) H hl (fun a1 b1 c1 _ => hQ _ _ (fun Q' hQ' => ?_))
    refine yf_f (T := T') (t := 0) (f := p + 20) (by omega) (by omega) (by omega) hT' Q' (sy_ohs (sy_ohs v a b c) a1 b1 c1) (fun _ => rfl) (fun z => absurd z (by omega)) H' hl (fun a2 b2 c2 _ => hQ' _ _ ?_)
    rw [m1, m2]
    have f1 := F1 h hp' (by omega)
    have f2 := F2 h hp' (by omega)
    show ((nI (fw_e (lk_f (gy_links v)) T 16 p h) = nI (fw_e (lk_f (gy_links v)) T' 16 p h) → _) ∧ _)
    refine pk_eq (fw_e (lk_f (gy_links v)) T 16 p h) (fw_e (lk_f (gy_links v)) T' 16 p h) (fun z => ?_) (fun z => ?_)
    · refine ih (h + 1) (by omega) a2 b2 c2 n (fun a b c => ?_)
      have := hp a b c
      change post (nI (n + ((!(fw_e (lk_f (gy_links v)) T 16 p h == fw_e (lk_f (gy_links v)) T' 16 p h)).toNat + ks_f (fun i => !(fw_e (lk_f (gy_links v)) T 16 p i == fw_e (lk_f (gy_links v)) T' 16 p i)) d (h + 1)))) _ at this
      rw [show (fw_e (lk_f (gy_links v)) T 16 p h == fw_e (lk_f (gy_links v)) T' 16 p h) = true from by rw [beq_iff_eq]; exact z] at this
      change post (nI (n + (0 + ks_f (fun i => !(fw_e (lk_f (gy_links v)) T 16 p i == fw_e (lk_f (gy_links v)) T' 16 p i)) d (h + 1)))) _ at this
      rw [Nat.zero_add] at this
      exact this
    · refine ih (h + 1) (by omega) a2 b2 c2 (n + 1) (fun a b c => ?_)
      have := hp a b c
      change post (nI (n + ((!(fw_e (lk_f (gy_links v)) T 16 p h == fw_e (lk_f (gy_links v)) T' 16 p h)).toNat + ks_f (fun i => !(fw_e (lk_f (gy_links v)) T 16 p i == fw_e (lk_f (gy_links v)) T' 16 p i)) d (h + 1)))) _ at this
      rw [show (fw_e (lk_f (gy_links v)) T 16 p h == fw_e (lk_f (gy_links v)) T' 16 p h) = false from by rw [beq_eq_false_iff_ne]; exact z, ← Nat.add_assoc] at this
      exact this
theorem i_vc_differing {k : Nat} {u : SX} {v : SY} (I : i_Rel k u v) (hk : k + 5 ≤ 2560) (v1 : Int32) : wpX_differing (fun r u' => wpY_differing (fun r' v' => r' = r ∧ i_Rel (k + 5) u' v') v v1) u v1 := by
  have RU := i_up I
  rcases bd_or 20 (by decide) v1 with h1 | ⟨p, hp, rfl⟩
  · exact xq_b h1 u (yq_b h1 v ⟨rfl, RU⟩)
  obtain ⟨l1, l2⟩ := rl_lk I
  obtain ⟨T, tX, tY, hT, t1, t2, HX, HY, e0, e1⟩ := rl_f I (f := p)
  obtain ⟨T', hT', HX', HY', _⟩ := rl_T I
  obtain ⟨σ, hs, hσ⟩ := rl_ms I
  have m1 : p % 20 = p := Nat.mod_eq_of_lt hp
  refine xq_g hp u (fun Q hQ => ?_)
  refine xd_ends t1 (show p < 40 by omega) hT (by omega) u (fun z => (e0 z).1) (fun z => (e1 z).1) HX l2 hs ?_
  intro r u1 F1 σ1 S1 ms1 s1 C1 D1 hF1
  rw [m1] at D1
  refine hQ _ _ (fun Q2 hQ2 => ?_)
  have hl1 : lk_Ok (gx_links (sx_kept u1 (nI r))) := by
    show lk_Ok (gx_links u1)
    rw [xC_links C1]; exact l2
  have elk : gx_links (sx_kept u1 (nI r)) = gx_links u := xC_links C1
  refine xd_solve (g := none) (t := 0) (T := T') (kd := some r) (fk := fw_e (lk_f (gx_links u)) T 16 p) (σ := σ1) (fm := 223) (F := F1) (by omega) (fun s hs => absurd hs (by simp)) (by omega) hT' (by omega) (sx_kept u1 (nI r)) (xC_Hd C1 HX') hl1 S1 ms1 rfl (fun r' hr' => by rw [← Option.some.inj hr']; exact D1) (by omega) ?_
  intro u2 F2 σ2 nw hI h3 h4
  obtain ⟨S2, ms2, C2, n2, k2, f2⟩ := hI
  have hn := n2 p hp
  have hr := f2 r rfl
  refine hQ2 u2 (fun Q3 hQ3 => ?_)
  rw [elk] at hn
  rw [hn.1]
  obtain ⟨u3, w1, w2⟩ := xd_diff u2 S2 hr hn.2
  refine w1 _ (hQ3 _ _ ?_)
  refine yq_g hp v ⟨65, ?_⟩
  have hC : bx_C u2 = bx_C u := C2.trans C1
  have ek : ks_f (fun i => !(fw_e (lk_f (gy_links v)) T 16 p i == fw_e (lk_f (gy_links v)) T' 16 p i)) 64 0 = cn_r 64 (fun i => !(fw_e (lk_f (gy_links v)) T 16 p i == fw_e (lk_f (gy_links v)) T' 16 p i)) := by
    rw [ks_r]
    exact cn_r_cg _ _ _ (fun i _ => by rw [Nat.zero_add])
  refine yq_l (T := T) (T' := T') (t := tY) hp t2 hT hT' ((e1 hp).2) HY HY' (by rw [← l1]; exact l2) 64 0 (by omega) (gy_outPlace v) (gy_outHeader v) (gy_seen v) 0 (fun a b c => ⟨?_, rl_y2 a b c (rl_C I (w2.1.trans hC) (ms_M w2.2.2.2 ms2) (by omega))⟩)
  rw [Nat.zero_add, ek, l1]
  rfl
end
section
/-! deciding, needless -/
theorem xk_b1 {post : Int32 → SX → Prop} {x y : Int32} : ∀ u : SX, (∀ Q : Int32 → Prop, Q 0 → wpX_isRule Q u x y) → post (-1) u → wpX_deciding post u x y := by
  intro u h hp
  obtain ⟨f_active, f_outPlace, f_outHeader, f_freeNode, f_freeCount, f_keptDiagram, f_depth, f_got, f_stamp, a_links, a_ruleCount, a_matches, a_actions, a_changes, a_states, a_places, a_headers, a_tables, a_treated, a_nodes, a_following, a_marked, a_bucket, a_now, a_next, a_layer, a_workLevel, a_workOne, a_workTwo, a_workPhase, a_workLow, a_memoStamp, a_memoOne, a_memoTwo, a_memoLevel, a_memoGot⟩ := u
  unfold wpX_deciding
  refine h _ ?_
  exact br_t rfl hp
theorem xk_g1 {post : Int32 → SX → Prop} {s : Nat} {y : Int32} (hs : s < 5) : ∀ u : SX, (∀ Q : Int32 → Prop, Q 1 → wpX_isRule Q u (nI s) y) → (∀ Q : SX → Prop, (∀ u1 : SX, (∀ Q1 : Int32 → SX → Prop, (∀ r (u2 : SX), (∃ n32, wX_deciding_32 post (nI s) y n32 r (gx_ruleCount u2 s - 1) (gx_active u2) (gx_outPlace u2) (gx_outHeader u2) (gx_freeNode u2) (gx_freeCount u2) (gx_keptDiagram u2) (gx_depth u2) (gx_got u2) (gx_stamp u2) (gx_links u2) (gx_ruleCount u2) (gx_matches u2) (gx_actions u2) (gx_changes u2) (gx_states u2) (gx_places u2) (gx_headers u2) (gx_tables u2) (gx_treated u2) (gx_nodes u2) (gx_following u2) (gx_marked u2) (gx_bucket u2) (gx_now u2) (gx_next u2) (gx_layer u2) (gx_workLevel u2) (gx_workOne u2) (gx_workTwo u2) (gx_workPhase u2) (gx_workLow u2) (gx_memoStamp u2) (gx_memoOne u2) (gx_memoTwo u2) (gx_memoLevel u2) (gx_memoGot u2)) → Q1 r u2) → wpX_leaf Q1 u1 (nI 6)) → Q u1) → wpX_reset Q u) → wpX_deciding post u (nI s) y := by
  intro u h H
  have hc : (nI s).toNatClampNeg = s := nI_clamp (by omega)
  obtain ⟨f_active, f_outPlace, f_outHeader, f_freeNode, f_freeCount, f_keptDiagram, f_depth, f_got, f_stamp, a_links, a_ruleCount, a_matches, a_actions, a_changes, a_states, a_places, a_headers, a_tables, a_treated, a_nodes, a_following, a_marked, a_bucket, a_now, a_next, a_layer, a_workLevel, a_workOne, a_workTwo, a_workPhase, a_workLow, a_memoStamp, a_memoOne, a_memoTwo, a_memoLevel, a_memoGot⟩ := u
  unfold wpX_deciding
  dsimp only
  rw [hc]
  refine h _ ?_
  refine br_f (by decide) (H _ ?_)
  rintro ⟨f_active2, f_outPlace2, f_outHeader2, f_freeNode2, f_freeCount2, f_keptDiagram2, f_depth2, f_got2, f_stamp2, a_links2, a_ruleCount2, a_matches2, a_actions2, a_changes2, a_states2, a_places2, a_headers2, a_tables2, a_treated2, a_nodes2, a_following2, a_marked2, a_bucket2, a_now2, a_next2, a_layer2, a_workLevel2, a_workOne2, a_workTwo2, a_workPhase2, a_workLow2, a_memoStamp2, a_memoOne2, a_memoTwo2, a_memoLevel2, a_memoGot2⟩ h1
  refine h1 _ ?_
  rintro r ⟨f_active3, f_outPlace3, f_outHeader3, f_freeNode3, f_freeCount3, f_keptDiagram3, f_depth3, f_got3, f_stamp3, a_links3, a_ruleCount3, a_matches3, a_actions3, a_changes3, a_states3, a_places3, a_headers3, a_tables3, a_treated3, a_nodes3, a_following3, a_marked3, a_bucket3, a_now3, a_next3, a_layer3, a_workLevel3, a_workOne3, a_workTwo3, a_workPhase3, a_workLow3, a_memoStamp3, a_memoOne3, a_memoTwo3, a_memoLevel3, a_memoGot3⟩ h2
  exact And.intro (vp_in_nI (by omega) (by decide)) (nm_e h2)
theorem yk_b1 {post : Int32 → Prop} {x y : Int32} : ∀ v : SY, (∀ Q : Int32 → Prop, Q 1 → wpY_noRule Q v x y) → post (-1) → wpY_deciding post v x y := by
  intro v h hp
  obtain ⟨f_active, f_outPlace, f_outHeader, f_seen, a_links, a_sizes, a_matches, a_actions, a_changes, a_states, a_places, a_headers, a_tables, a_treated⟩ := v
  unfold wpY_deciding
  refine h _ ?_
  exact br_f (by decide) hp
theorem yk_g1 {post : Int32 → Prop} {x y : Int32} : ∀ v : SY, (∀ Q : Int32 → Prop, Q 0 → wpY_noRule Q v x y) → (∃ n16, wY_deciding_16 post x y (gy_active v) (gy_outPlace v) (gy_outHeader v) (gy_seen v) (gy_links v) (gy_sizes v) (gy_matches v) (gy_actions v) (gy_changes v) (gy_states v) (gy_places v) (gy_headers v) (gy_tables v) (gy_treated v) n16 (nI 0) (nI 0)) → wpY_deciding post v x y := by
  intro v h H
  obtain ⟨f_active, f_outPlace, f_outHeader, f_seen, a_links, a_sizes, a_matches, a_actions, a_changes, a_states, a_places, a_headers, a_tables, a_treated⟩ := v
  unfold wpY_deciding
  refine h _ ?_
  exact br_t rfl H
theorem m1_ok (t s : Nat) (ht : t < 4) (hs : s < 5) : ∀ i, i < 6 → (nI (30 * t + 6 * s + i) = -1 ↔ i = 6) := fun i hi => ⟨fun z => absurd z (nb_m1lt _ (by omega)), fun z => absurd z (by omega)⟩
theorem yk_l {post : Int32 → Prop} {T : TB} {s i : Nat} {v : SY} (hs : s < 5) (hi : i < 6) (hT : tb_Ok T) (H : ty_Hd v 0 T) : ∀ d h, h + d = 64 → ∀ n, post (nI (n + ks_f (fun x => (fr_x T s 6 x).elim 6 (fun j => j) == i) d h)) → wY_deciding_16 post (nI s) (nI i) (gy_active v) (gy_outPlace v) (gy_outHeader v) (gy_seen v) (gy_links v) (gy_sizes v) (gy_matches v) (gy_actions v) (gy_changes v) (gy_states v) (gy_places v) (gy_headers v) (gy_tables v) (gy_treated v) (d + 1) (nI n) (nI h) := by
  intro d
  induction d with
  | zero =>
    intro h hh n hp
    have e' : h = 64 := by omega
    subst e'
    exact br_t (by decide) hp
  | succ d ih =>
    intro h hh n hp
    change post (nI (n + (((fr_x T s 6 h).elim 6 (fun j => j) == i).toNat + ks_f (fun x => (fr_x T s 6 x).elim 6 (fun j => j) == i) d (h + 1)))) at hp
    have e6 : (6 : Int32) * nI s + nI i = nI (6 * s + i) := nb_6 s i
    refine br_f (nI_ge (b := 64) (by omega) (by decide)) ?_
    rw [e6]
    refine yr_f (t := 0) (b := 6) (by omega) hs (by omega) hT (m1_ok 0 s (by omega) hs) _ (gy_active v, gy_outPlace v, gy_outHeader v, gy_seen v, gy_links v, gy_sizes v, gy_matches v, gy_actions v, gy_changes v, gy_states v, gy_places v, gy_headers v, gy_tables v, gy_treated v) H ?_
    have yes : (fr_x T s 6 h).elim 6 (fun j => j) = i → wY_deciding_16 post (nI s) (nI i) (gy_active v) (gy_outPlace v) (gy_outHeader v) (gy_seen v) (gy_links v) (gy_sizes v) (gy_matches v) (gy_actions v) (gy_changes v) (gy_states v) (gy_places v) (gy_headers v) (gy_tables v) (gy_treated v) (d + 1) (nI (n + 1)) (nI (h + 1)) := by
      intro z
      rw [show ((fr_x T s 6 h).elim 6 (fun j => j) == i) = true from by rw [beq_iff_eq]; exact z, ← Nat.add_assoc] at hp
      exact ih (h + 1) (by omega) (n + 1) hp
    have no : (fr_x T s 6 h).elim 6 (fun j => j) ≠ i → wY_deciding_16 post (nI s) (nI i) (gy_active v) (gy_outPlace v) (gy_outHeader v) (gy_seen v) (gy_links v) (gy_sizes v) (gy_matches v) (gy_actions v) (gy_changes v) (gy_states v) (gy_places v) (gy_headers v) (gy_tables v) (gy_treated v) (d + 1) (nI n) (nI (h + 1)) := by
      intro z
      rw [show ((fr_x T s 6 h).elim 6 (fun j => j) == i) = false from by rw [beq_eq_false_iff_ne]; exact z] at hp
      change post (nI (n + (0 + ks_f (fun x => (fr_x T s 6 x).elim 6 (fun j => j) == i) d (h + 1)))) at hp
      rw [Nat.zero_add] at hp
      exact ih (h + 1) (by omega) n hp
    cases e : fr_x T s 6 h with
    | none =>
      rw [e] at no
      refine br_f ?_ (nm_r (nI_1 h) (no (by show 6 ≠ i; omega)))
      exact fun z => absurd z.symm (nb_m1lt _ (by omega))
    | some j =>
      rw [e] at yes no
      have hj := fr_lt _ _ _ e
      have h6 := hT.1 s hs
      refine pk_eq (30 * 0 + 6 * s + j) (6 * s + i) (fun z => nm_r (nI_1 n) (nm_r (nI_1 h) (yes (by show j = i; omega)))) (fun z => nm_r (nI_1 h) (no (by show j ≠ i; omega)))
theorem i_vc_deciding {k : Nat} {u : SX} {v : SY} (I : i_Rel k u v) (hk : k + 5 ≤ 2560) (v1 : Int32) (v2 : Int32) : wpX_deciding (fun r u' => wpY_deciding (fun r' => r' = r ∧ i_Rel (k + 5) u' v) v v1 v2) u v1 v2 := by
  have RU := i_up I
  obtain ⟨T, hT, HX, HY, _⟩ := rl_T I
  have hx := tb_0 HX
  have hy := tb_0 HY
  rcases bd_or 5 (by decide) v1 with h1 | ⟨s, hs, rfl⟩
  · exact xk_b1 u (fun Q hQ => xR_b1 h1 u hQ) (yk_b1 v (fun Q hQ => yR_b1 h1 v hQ) ⟨rfl, RU⟩)
  have h6 := hT.1 s hs
  rcases bd_or (tb_c T s) (by omega) v2 with h2 | ⟨i, hi, rfl⟩
  · exact xk_b1 u (fun Q hQ => xR_b2 hs (by omega) h2 u (hx.1 s hs) hQ) (yk_b1 v (fun Q hQ => yR_b2 hs (by omega) h2 v (hy.1 s hs) hQ) ⟨rfl, RU⟩)
  obtain ⟨σ, hsm, hσ⟩ := rl_ms I
  refine xk_g1 hs u (fun Q hQ => xR_g hs (by omega) hi u (hx.1 s hs) hQ) (fun Q hQ => ?_)
  refine xz_reset u (fun u1 S1 C1 M1 K1 => hQ u1 (fun Q1 hQ1 => ?_))
  obtain ⟨r2, u2, F2, w1, w2, w3⟩ := xd_leaf (v := 6) (by omega) (show 0 < (List.range' 0 4096).length by rw [List.length_range']; omega) u1 S1 (ms_M M1 hsm)
  obtain ⟨S2, E2, l2, C2, D2, k2⟩ := w2
  rw [List.length_range'] at l2
  have ec : gx_ruleCount u2 s = nI (tb_c T s) := by
    rw [xC_cnt C2, xC_cnt C1]; exact hx.1 s hs
  obtain ⟨r3, u3, F3, σ3, z1, z2, z3, z4⟩ := xe_d (x2 := nI i) hs hT (tb_c T s) (Nat.le_refl _) u2 F2 σ r2 (xC_Hd (C2.trans C1) HX) S2 k2 (dg_R_cg w3 (fun h _ => by unfold de_r; rw [Nat.sub_self]; rfl)) (by omega) (by omega)
  obtain ⟨S3, E3, l3, C3, D3, k3⟩ := z2
  refine w1 _ (hQ1 _ _ ⟨tb_c T s + 1, ?_⟩)
  rw [ec]
  refine z1 _ (fun Q' hQ' => ?_)
  obtain ⟨u4, y1, y2⟩ := xd_count (v := i) (by omega) u3 S3 z4
  refine y1 _ (hQ' _ _ ?_)
  refine yk_g1 v (fun Q hQ => yR_g hs (by omega) hi v (hy.1 s hs) hQ) ⟨65, ?_⟩
  refine yk_l (T := T) hs (by omega) hT HY 64 0 (by omega) 0 ⟨?_, rl_C I (y2.1.trans (C3.trans (C2.trans C1))) (ms_M y2.2.2.2 k3) (by omega)⟩
  rw [Nat.zero_add, ks_r]
  refine congrArg nI (cn_r_cg _ _ _ (fun x _ => ?_))
  rw [Nat.zero_add]
  unfold de_r fr_x
  rw [Nat.sub_zero]
/-! needless -/
def tm_e (T : TB) (s h i : Nat) : Option (Nat × Nat) := if tb_a T (6 * s + i) = 4 then none else some (tb_a T (6 * s + i), ch_v (tb_h T (6 * s + i)) h)
theorem tm_1 {T : TB} {s b h : Nat} : ts_r T s b 0 h = ((fr_x T s b h).bind (tm_e T s h)).elim 256 (fun x => 64 * x.1 + x.2) := by
  unfold ts_r fr_x
  rw [Nat.sub_zero]
  cases fr_b (fr_P T s b h) (tb_c T s) 0 with
  | none => rfl
  | some i =>
    show tm_v T s i h = (tm_e T s h i).elim 256 _
    unfold tm_v tm_e
    by_cases z : tb_a T (6 * s + i) = 4
    · rw [if_pos z, if_pos z]; rfl
    · rw [if_neg z, if_neg z]; rfl
theorem tm_2 {T : TB} {s b h p : Nat} (hp : p / 4 = s) : tr_o T b p h = ((fr_x T s b h).bind (tm_e T s h)).map (fun x => (if x.1 = 5 then p else 4 * s + x.1, x.2)) := by
  unfold tr_o
  rw [hp]
  cases fr_x T s b h with
  | none => rfl
  | some i =>
    show tr_r T p h i = (tm_e T s h i).map _
    unfold tr_r tm_e
    rw [hp]
    by_cases z : tb_a T (6 * s + i) = 4
    · rw [if_pos z, if_pos z]; rfl
    · rw [if_neg z, if_neg z, Nat.mul_comm s 4]; rfl
theorem tm_b {T : TB} (hT : tb_Ok T) {s b h A g : Nat} (hs : s < 5) (hh : h < 64) (e : (fr_x T s b h).bind (tm_e T s h) = some (A, g)) : A ≠ 4 ∧ A ≤ 5 ∧ g < 64 := by
  cases e1 : fr_x T s b h with
  | none => rw [e1] at e; exact absurd e (by simp)
  | some i =>
    rw [e1] at e
    change tm_e T s h i = some (A, g) at e
    have h1 := fr_lt _ _ _ e1
    have h6 := hT.1 s hs
    have h3 := hT.2 (6 * s + i) (by omega)
    unfold tm_e at e
    by_cases z : tb_a T (6 * s + i) = 4
    · rw [if_pos z] at e; exact absurd e (by simp)
    · rw [if_neg z] at e
      have e2 := Prod.mk.inj (Option.some.inj e)
      rw [← e2.1, ← e2.2]
      exact ⟨z, h3.2.1, ch_lt h3.2.2 hh⟩
theorem nl_0 {s : Nat} {o1 o2 : Option (Nat × Nat)} (b1 : ∀ A g, o1 = some (A, g) → A ≠ 4 ∧ A ≤ 5 ∧ g < 64) (b2 : ∀ A g, o2 = some (A, g) → A ≠ 4 ∧ A ≤ 5 ∧ g < 64) : o1.elim 256 (fun x => 64 * x.1 + x.2) = o2.elim 256 (fun x => 64 * x.1 + x.2) ↔ ∀ c, c < 4 → o1.map (fun x => (if x.1 = 5 then 4 * s + c else 4 * s + x.1, x.2)) = o2.map (fun x => (if x.1 = 5 then 4 * s + c else 4 * s + x.1, x.2)) := by
  cases o1 with
  | none =>
    cases o2 with
    | none => exact ⟨fun _ _ _ => rfl, fun _ => rfl⟩
    | some y =>
      obtain ⟨A, g⟩ := y
      have q := b2 A g rfl
      refine ⟨fun h => ?_, fun h => ?_⟩
      · change 256 = 64 * A + g at h; omega
      · exact absurd (h 0 (by omega)) (by simp)
  | some x =>
    obtain ⟨A, g⟩ := x
    have p := b1 A g rfl
    cases o2 with
    | none =>
      refine ⟨fun h => ?_, fun h => ?_⟩
      · change 64 * A + g = 256 at h; omega
      · exact absurd (h 0 (by omega)) (by simp)
    | some y =>
      obtain ⟨B, k⟩ := y
      have q := b2 B k rfl
      refine ⟨fun h => ?_, fun h => ?_⟩
      · change 64 * A + g = 64 * B + k at h
        have e1 : A = B := by omega
        have e2 : g = k := by omega
        subst e1 e2
        exact fun _ _ => rfl
      · have hc : ∀ c, c < 4 → (if A = 5 then 4 * s + c else 4 * s + A) = (if B = 5 then 4 * s + c else 4 * s + B) ∧ g = k := by
          intro c hc
          have := Option.some.inj (h c hc)
          exact Prod.mk.inj this
        show 64 * A + g = 64 * B + k
        have e2 := (hc 0 (by omega)).2
        have d0 := (hc 0 (by omega)).1
        have d1 := (hc 1 (by omega)).1
        by_cases a5 : A = 5
        · by_cases b5 : B = 5
          · omega
          · rw [if_pos a5, if_neg b5] at d0 d1; omega
        · by_cases b5 : B = 5
          · rw [if_neg a5, if_pos b5] at d0 d1; omega
          · rw [if_neg a5, if_neg b5] at d0; omega
theorem nl_1 {T : TB} (hT : tb_Ok T) {s b h : Nat} (hs : s < 5) (hh : h < 64) : ts_r T s 6 0 h = ts_r T s b 0 h ↔ ∀ c, c < 4 → tr_o T 6 (4 * s + c) h = tr_o T b (4 * s + c) h := by
  rw [tm_1, tm_1, nl_0 (s := s) (fun A g => tm_b hT hs hh) (fun A g => tm_b hT hs hh)]
  constructor
  · intro H c hc
    rw [tm_2 (s := s) (by omega), tm_2 (s := s) (by omega)]
    exact H c hc
  · intro H c hc
    have := H c hc
    rw [tm_2 (s := s) (by omega), tm_2 (s := s) (by omega)] at this
    exact this
theorem nl_2 {T : TB} (hT : tb_Ok T) {s b : Nat} (hs : s < 5) : (∀ h, h < 64 → ts_r T s 6 0 h = ts_r T s b 0 h) ↔ ∀ c, c < 256 → tr_o T 6 (4 * s + c / 64) (c % 64) = tr_o T b (4 * s + c / 64) (c % 64) := by
  constructor
  · intro H c hc
    exact (nl_1 hT hs (by omega)).mp (H (c % 64) (by omega)) (c / 64) (by omega)
  · intro H h hh
    refine (nl_1 hT hs hh).mpr (fun c hc => ?_)
    have := H (64 * c + h) (by omega)
    rw [show (64 * c + h) / 64 = c by omega, show (64 * c + h) % 64 = h by omega] at this
    exact this
theorem xo_b1 {post : Int32 → SX → Prop} {x y : Int32} : ∀ u : SX, (∀ Q : Int32 → Prop, Q 0 → wpX_isRule Q u x y) → post (-1) u → wpX_needless post u x y := by
  intro u h hp
  obtain ⟨f_active, f_outPlace, f_outHeader, f_freeNode, f_freeCount, f_keptDiagram, f_depth, f_got, f_stamp, a_links, a_ruleCount, a_matches, a_actions, a_changes, a_states, a_places, a_headers, a_tables, a_treated, a_nodes, a_following, a_marked, a_bucket, a_now, a_next, a_layer, a_workLevel, a_workOne, a_workTwo, a_workPhase, a_workLow, a_memoStamp, a_memoOne, a_memoTwo, a_memoLevel, a_memoGot⟩ := u
  unfold wpX_needless
  refine h _ ?_
  exact br_t rfl hp
theorem xo_g1 {post : Int32 → SX → Prop} {x y : Int32} : ∀ u : SX, (∀ Q : Int32 → Prop, Q 1 → wpX_isRule Q u x y) → (∀ Q : SX → Prop, (∀ u1 : SX, (∀ Q1 : Int32 → SX → Prop, (∀ r (u2 : SX), (∀ Q2 : Int32 → SX → Prop, (∀ r' (u3 : SX), ((r = r' → post 1 u3) ∧ (¬ r = r' → post 0 u3)) → Q2 r' u3) → wpX_treatments Q2 u2 x y) → Q1 r u2) → wpX_treatments Q1 u1 x (-1)) → Q u1) → wpX_reset Q u) → wpX_needless post u x y := by
  intro u h H
  obtain ⟨f_active, f_outPlace, f_outHeader, f_freeNode, f_freeCount, f_keptDiagram, f_depth, f_got, f_stamp, a_links, a_ruleCount, a_matches, a_actions, a_changes, a_states, a_places, a_headers, a_tables, a_treated, a_nodes, a_following, a_marked, a_bucket, a_now, a_next, a_layer, a_workLevel, a_workOne, a_workTwo, a_workPhase, a_workLow, a_memoStamp, a_memoOne, a_memoTwo, a_memoLevel, a_memoGot⟩ := u
  unfold wpX_needless
  refine h _ ?_
  refine br_f (by decide) (H _ ?_)
  rintro ⟨f_active2, f_outPlace2, f_outHeader2, f_freeNode2, f_freeCount2, f_keptDiagram2, f_depth2, f_got2, f_stamp2, a_links2, a_ruleCount2, a_matches2, a_actions2, a_changes2, a_states2, a_places2, a_headers2, a_tables2, a_treated2, a_nodes2, a_following2, a_marked2, a_bucket2, a_now2, a_next2, a_layer2, a_workLevel2, a_workOne2, a_workTwo2, a_workPhase2, a_workLow2, a_memoStamp2, a_memoOne2, a_memoTwo2, a_memoLevel2, a_memoGot2⟩ h1
  refine h1 _ ?_
  rintro r ⟨f_active3, f_outPlace3, f_outHeader3, f_freeNode3, f_freeCount3, f_keptDiagram3, f_depth3, f_got3, f_stamp3, a_links3, a_ruleCount3, a_matches3, a_actions3, a_changes3, a_states3, a_places3, a_headers3, a_tables3, a_treated3, a_nodes3, a_following3, a_marked3, a_bucket3, a_now3, a_next3, a_layer3, a_workLevel3, a_workOne3, a_workTwo3, a_workPhase3, a_workLow3, a_memoStamp3, a_memoOne3, a_memoTwo3, a_memoLevel3, a_memoGot3⟩ h2
  refine h2 _ ?_
  rintro r' ⟨f_active4, f_outPlace4, f_outHeader4, f_freeNode4, f_freeCount4, f_keptDiagram4, f_depth4, f_got4, f_stamp4, a_links4, a_ruleCount4, a_matches4, a_actions4, a_changes4, a_states4, a_places4, a_headers4, a_tables4, a_treated4, a_nodes4, a_following4, a_marked4, a_bucket4, a_now4, a_next4, a_layer4, a_workLevel4, a_workOne4, a_workTwo4, a_workPhase4, a_workLow4, a_memoStamp4, a_memoOne4, a_memoTwo4, a_memoLevel4, a_memoGot4⟩ h3
  exact h3
theorem yo_b1 {post : Int32 → SY → Prop} {x y : Int32} : ∀ v : SY, (∀ Q : Int32 → Prop, Q 1 → wpY_noRule Q v x y) → post (-1) v → wpY_needless post v x y := by
  intro v h hp
  obtain ⟨f_active, f_outPlace, f_outHeader, f_seen, a_links, a_sizes, a_matches, a_actions, a_changes, a_states, a_places, a_headers, a_tables, a_treated⟩ := v
  unfold wpY_needless
  refine h _ ?_
  exact br_f (by decide) hp
theorem yo_g1 {post : Int32 → SY → Prop} {x y : Int32} : ∀ v : SY, (∀ Q : Int32 → Prop, Q 0 → wpY_noRule Q v x y) → (∃ n13, wY_needless_13 post x y n13 (nI 0) (gy_active v) (gy_outPlace v) (gy_outHeader v) (gy_seen v) (gy_links v) (gy_sizes v) (gy_matches v) (gy_actions v) (gy_changes v) (gy_states v) (gy_places v) (gy_headers v) (gy_tables v) (gy_treated v)) → wpY_needless post v x y := by
  intro v h H
  obtain ⟨f_active, f_outPlace, f_outHeader, f_seen, a_links, a_sizes, a_matches, a_actions, a_changes, a_states, a_places, a_headers, a_tables, a_treated⟩ := v
  unfold wpY_needless
  refine h _ ?_
  exact br_t rfl H
theorem yn_s {post : Int32 → SY → Prop} {s i n c : Nat} (hc : c < 256) : ∀ v : SY, (∀ Q : SY → Prop, (∀ v1 : SY, (∀ Q' : SY → Prop, (∀ v2 : SY, ((gy_outPlace v2 = gy_outPlace v1 → ((gy_outHeader v2 = gy_outHeader v1 → wY_needless_13 post (nI s) (nI i) n (nI (c + 1)) (gy_active v2) (gy_outPlace v2) (gy_outHeader v2) (gy_seen v2) (gy_links v2) (gy_sizes v2) (gy_matches v2) (gy_actions v2) (gy_changes v2) (gy_states v2) (gy_places v2) (gy_headers v2) (gy_tables v2) (gy_treated v2)) ∧ (¬ gy_outHeader v2 = gy_outHeader v1 → post 0 v2))) ∧ (¬ gy_outPlace v2 = gy_outPlace v1 → post 0 v2)) → Q' v2) → wpY_treat Q' v1 (nI 0) (nI (4 * s + c / 64)) (nI (c % 64)) (nI (6 * s + i))) → Q v1) → wpY_treat Q v (nI 0) (nI (4 * s + c / 64)) (nI (c % 64)) (-1)) → wY_needless_13 post (nI s) (nI i) (n + 1) (nI c) (gy_active v) (gy_outPlace v) (gy_outHeader v) (gy_seen v) (gy_links v) (gy_sizes v) (gy_matches v) (gy_actions v) (gy_changes v) (gy_states v) (gy_places v) (gy_headers v) (gy_tables v) (gy_treated v) := by
  rintro ⟨f_active, f_outPlace, f_outHeader, f_seen, a_links, a_sizes, a_matches, a_actions, a_changes, a_states, a_places, a_headers, a_tables, a_treated⟩ H
  have e1 : (4 : Int32) * nI s + nI c / 64 = nI (4 * s + c / 64) := by
    rw [show nI c / 64 = nI (c / 64) from pk_div (d := 64) (by omega) (by decide) (by decide)]
    show nI 4 * nI s + _ = _
    rw [pk_mul, nI_add]
  have e2 : nI c - nI c / 64 * 64 = nI (c % 64) := pk_rem (d := 64) (by omega) (by decide) (by decide)
  have e3 : (6 : Int32) * nI s + nI i = nI (6 * s + i) := nb_6 s i
  have key : wY_needless_13 post (nI s) (nI i) (n + 1) (nI c) f_active f_outPlace f_outHeader f_seen a_links a_sizes a_matches a_actions a_changes a_states a_places a_headers a_tables a_treated := by
    refine br_f (nI_ge (b := 256) hc (by decide)) (And.intro (by decide) (nm_r e1 (And.intro (by decide) ?_)))
    rw [e2, e3]
    refine H _ ?_
    rintro ⟨f_active2, f_outPlace2, f_outHeader2, f_seen2, a_links2, a_sizes2, a_matches2, a_actions2, a_changes2, a_states2, a_places2, a_headers2, a_tables2, a_treated2⟩ h1
    refine And.intro (by decide) (h1 _ ?_)
    rintro ⟨f_active3, f_outPlace3, f_outHeader3, f_seen3, a_links3, a_sizes3, a_matches3, a_actions3, a_changes3, a_states3, a_places3, a_headers3, a_tables3, a_treated3⟩ h2
    exact br_c (fun z => br_c (fun y => nm_r (nI_1 c) ((h2.1 z).1 y)) (fun y => (h2.1 z).2 y)) (fun z => h2.2 z)
  exact key
theorem yn_l {post : Int32 → SY → Prop} {T : TB} {s i : Nat} {v : SY} (hs : s < 5) (hi : i < 6) (hT : tb_Ok T) (H : ty_Hd v 0 T) (H1 : (∀ c, c < 256 → tr_o T 6 (4 * s + c / 64) (c % 64) = tr_o T i (4 * s + c / 64) (c % 64)) → ∀ a b, post 1 (sy_out v a b)) (H0 : (¬ ∀ c, c < 256 → tr_o T 6 (4 * s + c / 64) (c % 64) = tr_o T i (4 * s + c / 64) (c % 64)) → ∀ a b, post 0 (sy_out v a b)) : ∀ d c, c + d = 256 → (∀ c', c' < c → tr_o T 6 (4 * s + c' / 64) (c' % 64) = tr_o T i (4 * s + c' / 64) (c' % 64)) → ∀ a b, wY_needless_13 post (nI s) (nI i) (d + 1) (nI c) (gy_active (sy_out v a b)) (gy_outPlace (sy_out v a b)) (gy_outHeader (sy_out v a b)) (gy_seen (sy_out v a b)) (gy_links (sy_out v a b)) (gy_sizes (sy_out v a b)) (gy_matches (sy_out v a b)) (gy_actions (sy_out v a b)) (gy_changes (sy_out v a b)) (gy_states (sy_out v a b)) (gy_places (sy_out v a b)) (gy_headers (sy_out v a b)) (gy_tables (sy_out v a b)) (gy_treated (sy_out v a b)) := by
  intro d
  induction d with
  | zero =>
    intro c hc hall a b
    have e' : c = 256 := by omega
    subst e'
    exact br_t (by decide) (H1 hall a b)
  | succ d ih =>
    intro c hc hall a b
    have hp : 4 * s + c / 64 < 20 := by omega
    have hp4 : (4 * s + c / 64) / 4 = s := by omega
    have hh : c % 64 < 64 := by omega
    have hw1 : ∀ j, j < 6 → (nI (30 * 0 + 6 * ((4 * s + c / 64) / 4) + j) = -1 ↔ j = 6) := by rw [hp4]; exact m1_ok 0 s (by omega) hs
    have hw2 : ∀ j, j < 6 → (nI (30 * 0 + 6 * ((4 * s + c / 64) / 4) + j) = nI (6 * s + i) ↔ j = i) := by
      intro j hj
      rw [hp4, nI_eq (by omega) (by omega)]
      omega
    have go : tr_o T 6 (4 * s + c / 64) (c % 64) = tr_o T i (4 * s + c / 64) (c % 64) → ∀ a b, wY_needless_13 post (nI s) (nI i) (d + 1) (nI (c + 1)) (gy_active (sy_out v a b)) (gy_outPlace (sy_out v a b)) (gy_outHeader (sy_out v a b)) (gy_seen (sy_out v a b)) (gy_links (sy_out v a b)) (gy_sizes (sy_out v a b)) (gy_matches (sy_out v a b)) (gy_actions (sy_out v a b)) (gy_changes (sy_out v a b)) (gy_states (sy_out v a b)) (gy_places (sy_out v a b)) (gy_headers (sy_out v a b)) (gy_tables (sy_out v a b)) (gy_treated (sy_out v a b)) := by
      intro e
      refine ih (c + 1) (by omega) (fun c' hc' => ?_)
      by_cases z : c' = c
      · rw [z]; exact e
      · exact hall c' (by omega)
    have stop : tr_o T 6 (4 * s + c / 64) (c % 64) ≠ tr_o T i (4 * s + c / 64) (c % 64) → ∀ a b, post 0 (sy_out v a b) := fun e => H0 (fun hall => e (hall c (by omega)))
    refine yn_s (by omega) _ (fun Q hQ => ?_)
    refine yt_t (t := 0) (b := 6) (by omega) hp hh hT hw1 (sy_out v a b) H (fun t1 => hQ _ (fun Q' hQ' => ?_)) (fun q1 g1 t1 => hQ _ (fun Q' hQ' => ?_))
    · refine yt_t (t := 0) (b := i) (by omega) hp hh hT hw2 _ H (fun t2 => hQ' _ ?_) (fun q2 g2 t2 => hQ' _ ?_)
      · exact br_t rfl (br_t rfl (go (t1.trans t2.symm) _ _))
      · have hq := tr_lt hT hp hh t2
        refine br_f ?_ (stop (fun e => absurd (t1.symm.trans (e.trans t2)) (by simp)) _ _)
        exact nb_m1lt _ (by omega)
    · have hq1 := tr_lt hT hp hh t1
      refine yt_t (t := 0) (b := i) (by omega) hp hh hT hw2 _ H (fun t2 => hQ' _ ?_) (fun q2 g2 t2 => hQ' _ ?_)
      · refine br_f ?_ (stop (fun e => absurd (t1.symm.trans (e.trans t2)) (by simp)) _ _)
        exact fun z => nb_m1lt _ (by omega) z.symm
      · have hq2 := tr_lt hT hp hh t2
        show ((nI q2 = nI q1 → ((nI g2 = nI g1 → _) ∧ (¬ nI g2 = nI g1 → _))) ∧ (¬ nI q2 = nI q1 → _))
        refine pk_eq q2 q1 (fun z => pk_eq g2 g1 (fun y => ?_) (fun y => ?_)) (fun z => ?_)
        · exact go (by rw [t1, t2, z, y]) _ _
        · exact stop (fun e => y (by have := Prod.mk.inj (Option.some.inj (t1.symm.trans (e.trans t2))); exact this.2.symm)) _ _
        · exact stop (fun e => z (by have := Prod.mk.inj (Option.some.inj (t1.symm.trans (e.trans t2))); exact this.1.symm)) _ _
theorem rl_y3 {k : Nat} {u : SX} {v : SY} (p h : Int32) (R : i_Rel k u v) : i_Rel k u (sy_out v p h) := by
  obtain ⟨⟨T0, TT, π, a, R⟩, σ, m1, m2⟩ := R
  exact ⟨⟨T0, TT, π, a, rc_yo p h R⟩, σ, m1, m2⟩
theorem i_vc_needless {k : Nat} {u : SX} {v : SY} (I : i_Rel k u v) (hk : k + 5 ≤ 2560) (v1 : Int32) (v2 : Int32) : wpX_needless (fun r u' => wpY_needless (fun r' v' => r' = r ∧ i_Rel (k + 5) u' v') v v1 v2) u v1 v2 := by
  have RU := i_up I
  obtain ⟨T, hT, HX, HY, _⟩ := rl_T I
  have hx := tb_0 HX
  have hy := tb_0 HY
  rcases bd_or 5 (by decide) v1 with h1 | ⟨s, hs, rfl⟩
  · exact xo_b1 u (fun Q hQ => xR_b1 h1 u hQ) (yo_b1 v (fun Q hQ => yR_b1 h1 v hQ) ⟨rfl, RU⟩)
  have h6 := hT.1 s hs
  rcases bd_or (tb_c T s) (by omega) v2 with h2 | ⟨i, hi, rfl⟩
  · exact xo_b1 u (fun Q hQ => xR_b2 hs (by omega) h2 u (hx.1 s hs) hQ) (yo_b1 v (fun Q hQ => yR_b2 hs (by omega) h2 v (hy.1 s hs) hQ) ⟨rfl, RU⟩)
  obtain ⟨σ, hsm, hσ⟩ := rl_ms I
  refine xo_g1 u (fun Q hQ => xR_g hs (by omega) hi u (hx.1 s hs) hQ) (fun Q hQ => ?_)
  refine xz_reset u (fun u1 S1 C1 M1 K1 => hQ u1 (fun Q1 hQ1 => ?_))
  refine xd_treatments (T := T) (b := 6) (σ := σ) (F := List.range' 0 4096) hs hT (fun j hj => ⟨fun z => absurd z (nb_m1lt _ (by omega)), fun z => absurd z (by omega)⟩) u1 (xC_Hd C1 HX) S1 (ms_M M1 hsm) (by rw [List.length_range']; omega) (by omega) ?_
  intro r u2 F2 σ2 w1 w2 w3
  refine hQ1 _ _ (fun Q2 hQ2 => ?_)
  obtain ⟨S2, E2, l2, C2, k2⟩ := w1
  rw [List.length_range'] at l2
  refine xd_treatments (T := T) (b := i) (σ := σ2) (F := F2) hs hT (fun j hj => by rw [nI_eq (by omega) (by omega)]) u2 (xC_Hd (C2.trans C1) HX) S2 k2 (by omega) (by omega) ?_
  intro r' u3 F3 σ3 y1 y2 y3
  obtain ⟨S3, E3, l3, C3, k3⟩ := y1
  have w3' := dg_R_E S2 E3 w3
  have R3 : i_Rel (k + 5) u3 v := rl_C I (C3.trans (C2.trans C1)) k3 (by omega)
  have hr4 := w3'.1.1
  have hr4' := y3.1.1
  have hE : r = r' ↔ ∀ h, h < 64 → ts_r T s 6 0 h = ts_r T s i 0 h := by
    constructor
    · intro e h hh
      rw [← w3'.2 h hh, ← y3.2 h hh, e]
    · intro H
      refine dg_canon (st_W S3) (st_U S3) 6 (by omega) r r' w3'.1 y3.1 (by omega) (by omega) (fun h hh => ?_)
      rw [w3'.2 h hh, y3.2 h hh]
      exact H h hh
  have hY : ∀ post : Int32 → SY → Prop, ((∀ c, c < 256 → tr_o T 6 (4 * s + c / 64) (c % 64) = tr_o T i (4 * s + c / 64) (c % 64)) → ∀ a b, post 1 (sy_out v a b)) → ((¬ ∀ c, c < 256 → tr_o T 6 (4 * s + c / 64) (c % 64) = tr_o T i (4 * s + c / 64) (c % 64)) → ∀ a b, post 0 (sy_out v a b)) → wpY_needless post v (nI s) (nI i) := by
    intro post p1 p0
    exact yo_g1 v (fun Q hQ => yR_g hs (by omega) hi v (hy.1 s hs) hQ) ⟨257, yn_l (T := T) hs (by omega) hT HY p1 p0 256 0 (by omega) (fun c hc => absurd hc (by omega)) (gy_outPlace v) (gy_outHeader v)⟩
  refine hQ2 _ _ ⟨fun z => ?_, fun z => ?_⟩
  · have e : r = r' := (nI_eq (by omega) (by omega)).mp z
    have hall := (nl_2 hT hs).mp (hE.mp e)
    exact hY _ (fun _ a b => ⟨rfl, rl_y3 a b R3⟩) (fun n => absurd hall n)
  · have hall : ¬ ∀ c, c < 256 → tr_o T 6 (4 * s + c / 64) (c % 64) = tr_o T i (4 * s + c / 64) (c % 64) := fun H => z (congrArg nI (hE.mpr ((nl_2 hT hs).mpr H)))
    exact hY _ (fun p => absurd p hall) (fun _ a b => ⟨rfl, rl_y3 a b R3⟩)
end
