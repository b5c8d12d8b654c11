section
/-! rows of kit/rows, pasted -/
theorem pk_us {f : Nat → Int32} {k : Nat} {x : Int32} : upd f k x k = x := if_pos rfl
theorem pk_un {f : Nat → Int32} {k j : Nat} {x : Int32} (h : j ≠ k) : upd f k x j = f j := if_neg h
theorem pk_uLs {f : Nat → Int64} {k : Nat} {x : Int64} : vp_updL f k x k = x := if_pos rfl
theorem pk_uLn {f : Nat → Int64} {k j : Nat} {x : Int64} (h : j ≠ k) : vp_updL f k x j = f j := if_neg h
theorem pk_sub {a b : Nat} (h : b ≤ a) : nI a - nI b = nI (a - b) := by
  obtain ⟨c, rfl⟩ : ∃ c, a = c + b := ⟨a - b, by omega⟩
  rw [← nI_add, Int32.add_sub_cancel, Nat.add_sub_cancel]
theorem pk_m1 (n : Nat) : nI (n + 1) + (-1) = nI n := by
  rw [← nI_1, Int32.add_assoc, show (1 : Int32) + (-1) = 0 from rfl, Int32.add_zero]
theorem pk_mul (a b : Nat) : nI a * nI b = nI (a * b) := (Int32.ofNat_mul a b).symm
theorem pk_ix (x : Int32) {n : Nat} (hn : n < 2 ^ 31) : x < 0 ∨ nI n ≤ x ∨ ∃ j : Nat, j < n ∧ x = nI j := by
  by_cases h : x < 0
  · exact Or.inl h
  · obtain ⟨j, hj, rfl⟩ := nI_of h
    by_cases h2 : j < n
    · exact Or.inr (Or.inr ⟨j, h2, rfl⟩)
    · exact Or.inr (Or.inl (nI_le (by omega) hj))
theorem pk_in {x : Int32} (n N : Nat) (h : n < N) (hx : x = nI n := by rfl) (hN : N < 2 ^ 31 := by omega) : vp_in x N := by
  subst hx
  exact vp_in_nI h hN
theorem pk_cl {x : Int32} (n : Nat) (hx : x = nI n := by rfl) (h : n < 2 ^ 31 := by omega) : x.toNatClampNeg = n := by
  subst hx
  exact nI_clamp h
theorem pk_tn {n : Nat} (h : n < 2 ^ 32) : (nI n).toBitVec.toNat = n := Nat.mod_eq_of_lt h
theorem pk_and (x : Int32) {m : Int32} (k : Nat) (hm : m.toBitVec.toNat = 2 ^ k - 1) : x &&& m = nI (x.toBitVec.toNat % 2 ^ k) := by
  apply Int32.toBitVec_inj.mp
  apply BitVec.eq_of_toNat_eq
  rw [Int32.toBitVec_and, BitVec.toNat_and, hm, Nat.and_two_pow_sub_one_eq_mod]
  show _ = (BitVec.ofNat 32 _).toNat
  rw [BitVec.toNat_ofNat]
  exact (Nat.mod_eq_of_lt (Nat.lt_of_le_of_lt (Nat.mod_le _ _) x.toBitVec.isLt)).symm
theorem pk_andE (x : Int32) {m : Int32} (k : Nat) (hm : m.toBitVec.toNat = 2 ^ k - 1) : ∃ j : Nat, j < 2 ^ k ∧ x &&& m = nI j := ⟨_, Nat.mod_lt _ (Nat.two_pow_pos k), pk_and x k hm⟩
theorem pk_shl (a s : Int32) (k : Nat) (hs : (s.toBitVec.smod 32).toNat = k) : (a <<< s).toBitVec.toNat = a.toBitVec.toNat * 2 ^ k % 2 ^ 32 := by
  show (a.toBitVec <<< (s.toBitVec.smod 32).toNat).toNat = _
  rw [hs, BitVec.toNat_shiftLeft, Nat.shiftLeft_eq]
theorem pk_shlN {n : Nat} (s : Int32) (k : Nat) (hs : (s.toBitVec.smod 32).toNat = k) (h : n * 2 ^ k < 2 ^ 32) : nI n <<< s = nI (n * 2 ^ k) := by
  apply Int32.toBitVec_inj.mp
  apply BitVec.eq_of_toNat_eq
  have hn : n < 2 ^ 32 := Nat.lt_of_le_of_lt (Nat.le_mul_of_pos_right n (Nat.two_pow_pos k)) h
  rw [pk_shl _ _ k hs, pk_tn hn, pk_tn h, Nat.mod_eq_of_lt h]
theorem pk_lT {n : Nat} (h : n < 2 ^ 63) : (lN n).toInt = (n : Int) := lg_ofNat_toInt h
theorem pk_lLT {a b : Nat} (ha : a < 2 ^ 63) (hb : b < 2 ^ 63) : lN a < lN b ↔ a < b := by
  rw [Int64.lt_iff_toInt_lt, pk_lT ha, pk_lT hb]; omega
theorem pk_lLE {a b : Nat} (ha : a < 2 ^ 63) (hb : b < 2 ^ 63) : lN a ≤ lN b ↔ a ≤ b := by
  rw [Int64.le_iff_toInt_le, pk_lT ha, pk_lT hb]; omega
theorem pk_lEQ {a b : Nat} (ha : a < 2 ^ 63) (hb : b < 2 ^ 63) : lN a = lN b ↔ a = b := by
  rw [← Int64.toInt_inj, pk_lT ha, pk_lT hb]; omega
theorem pk_least (P : Nat → Prop) (h : ∃ k, P k) : ∃ k, P k ∧ ∀ j, j < k → ¬ P j := by
  obtain ⟨k, hk⟩ := h
  induction k using Nat.strongRecOn with
  | ind k ih =>
    by_cases e : ∃ j, j < k ∧ P j
    · obtain ⟨j, hj, pj⟩ := e
      exact ih j hj pj
    · exact ⟨k, hk, fun j hj pj => e ⟨j, hj, pj⟩⟩
theorem nx_and (a b : Nat) : nI a &&& nI b = nI (a &&& b) := by
  apply Int32.toBitVec_inj.1
  show BitVec.ofNat 32 a &&& BitVec.ofNat 32 b = BitVec.ofNat 32 (a &&& b)
  apply BitVec.eq_of_getLsbD_eq
  intro i hi
  simp [hi]
theorem nx_xor (a b : Nat) : nI a ^^^ nI b = nI (a ^^^ b) := by
  apply Int32.toBitVec_inj.1
  show BitVec.ofNat 32 a ^^^ BitVec.ofNat 32 b = BitVec.ofNat 32 (a ^^^ b)
  apply BitVec.eq_of_getLsbD_eq
  intro i hi
  simp [hi]
end
section
/-! masks as naturals below 128; a fold over them by + or max; products over tables -/
theorem fg_or (a b : Nat) : nI a ||| nI b = nI (a ||| b) := by
  apply Int32.toBitVec_inj.1
  show BitVec.ofNat 32 a ||| BitVec.ofNat 32 b = BitVec.ofNat 32 (a ||| b)
  apply BitVec.eq_of_getLsbD_eq
  intro i hi
  simp [hi]
def fg_bn (m v : Nat) : Nat := if m.testBit v = true then 1 else 0
theorem fg_bn_le (m v : Nat) : fg_bn m v ≤ 1 := by
  unfold fg_bn; split <;> omega
theorem fg_bn_t {m v : Nat} (h : m.testBit v = true) : fg_bn m v = 1 := if_pos h
theorem fg_bn_f {m v : Nat} (h : m.testBit v = false) : fg_bn m v = 0 := if_neg (by rw [h]; decide)
theorem fg_bn_1 {m v : Nat} : fg_bn m v = 1 ↔ m.testBit v = true := by
  unfold fg_bn; split <;> simp_all
theorem fg_bit : ∀ v, v < 7 → ∀ m, m < 128 → (nI m >>> (nI v &&& 31)) &&& 1 = nI (fg_bn m v) := by decide +kernel
theorem fg_sh1 : ∀ v, v < 7 → (1 : Int32) <<< (nI v &&& 31) = nI (2 ^ v) := by decide +kernel
theorem fg_pw : ∀ v, v < 7 → 2 ^ v < 128 := by decide +kernel
theorem fg_tb {m i : Nat} (hm : m < 128) (hi : 7 ≤ i) : m.testBit i = false :=
  Nat.testBit_lt_two_pow (Nat.lt_of_lt_of_le hm (Nat.pow_le_pow_right (by decide : 0 < 2) hi))
theorem fg_127 (i : Nat) : Nat.testBit 127 i = decide (i < 7) := Nat.testBit_two_pow_sub_one 7 i
theorem fg_lt {m : Nat} (h : ∀ i, 7 ≤ i → m.testBit i = false) : m < 128 := Nat.lt_pow_two_of_testBit (n := 7) m h
theorem fg_andn {m s : Nat} (hm : m < 128) : nI m &&& (nI s ^^^ (-1)) = nI (m &&& (127 ^^^ s)) := by
  rw [show (-1 : Int32) = nI 4294967295 from by decide +kernel, nx_xor, nx_and]
  refine congrArg nI (Nat.eq_of_testBit_eq fun i => ?_)
  rw [Nat.testBit_and, Nat.testBit_and, Nat.testBit_xor, Nat.testBit_xor, fg_127, show (4294967295 : Nat) = 2 ^ 32 - 1 from rfl, Nat.testBit_two_pow_sub_one]
  by_cases h : i < 7
  · rw [decide_eq_true h, decide_eq_true (show i < 32 by omega), Bool.xor_comm]
  · rw [fg_tb hm (by omega), Bool.false_and, Bool.false_and]
/-- a subset of s -/
theorem fg_sub {m s : Nat} : m &&& s = m ↔ ∀ i, m.testBit i = true → s.testBit i = true := by
  constructor
  · intro h i hi
    rw [← h, Nat.testBit_and, Bool.and_eq_true] at hi
    exact hi.2
  · intro h
    refine Nat.eq_of_testBit_eq fun i => ?_
    rw [Nat.testBit_and]
    cases e : m.testBit i with
    | false => rfl
    | true => rw [h i e]; rfl
theorem fg_sub0 {m s : Nat} (hm : m < 128) : m &&& (127 ^^^ s) = 0 ↔ m &&& s = m := by
  rw [fg_sub]
  constructor
  · intro h i hi
    have h2 : (m &&& (127 ^^^ s)).testBit i = false := by rw [h]; exact Nat.zero_testBit i
    have h7 : i < 7 := by
      refine Decidable.byContradiction fun z => ?_
      rw [fg_tb hm (by omega)] at hi
      exact absurd hi (by decide)
    rw [Nat.testBit_and, Nat.testBit_xor, fg_127, decide_eq_true h7, hi] at h2
    cases e : s.testBit i with
    | true => rfl
    | false => rw [e] at h2; exact absurd h2 (by decide)
  · intro h
    refine Nat.eq_of_testBit_eq fun i => ?_
    rw [Nat.testBit_and, Nat.testBit_xor, fg_127, Nat.zero_testBit]
    cases e : m.testBit i with
    | false => rfl
    | true =>
      have h7 : i < 7 := by
        refine Decidable.byContradiction fun z => ?_
        rw [fg_tb hm (by omega)] at e
        exact absurd e (by decide)
      rw [h i e, decide_eq_true h7]; rfl
theorem fg_sublt {m s : Nat} (h : m &&& s = m) (hs : s < 128) : m < 128 := by
  have : m &&& s ≤ s := Nat.and_le_right
  omega
theorem fg_andlt {m s : Nat} (hs : s < 128) : m &&& s < 128 := by
  have : m &&& s ≤ s := Nat.and_le_right
  omega
theorem fg_andlt' {m s : Nat} (hs : m < 128) : m &&& s < 128 := by
  have : m &&& s ≤ m := Nat.and_le_left
  omega
theorem fg_orlt {m s : Nat} (hm : m < 128) (hs : s < 128) : m ||| s < 128 := Nat.or_lt_two_pow (n := 7) hm hs
theorem fg_xorlt {m s : Nat} (hm : m < 128) (hs : s < 128) : m ^^^ s < 128 := Nat.xor_lt_two_pow (n := 7) hm hs
/-- a set built bit by bit -/
def fg_mk (p : Nat → Bool) : Nat → Nat
  | 0 => 0
  | v + 1 => if p v = true then fg_mk p v ||| 2 ^ v else fg_mk p v
theorem fg_mk_tb (p : Nat → Bool) (i : Nat) : ∀ k, (fg_mk p k).testBit i = (decide (i < k) && p i) := by
  intro k
  induction k with
  | zero => simp [fg_mk]
  | succ k ih =>
    unfold fg_mk
    by_cases h : p k = true
    · rw [if_pos h, Nat.testBit_or, ih, Nat.testBit_two_pow]
      by_cases e : k = i
      · subst e; simp [h]
      · have e1 : decide (k = i) = false := decide_eq_false e
        have e2 : decide (i < k + 1) = decide (i < k) := by
          by_cases h3 : i < k
          · rw [decide_eq_true h3, decide_eq_true (show i < k + 1 by omega)]
          · rw [decide_eq_false h3, decide_eq_false (show ¬ i < k + 1 by omega)]
        rw [e1, e2, Bool.or_false]
    · rw [if_neg h, ih]
      by_cases e : k = i
      · subst e; simp [h]
      · have e2 : decide (i < k + 1) = decide (i < k) := by
          by_cases h3 : i < k
          · rw [decide_eq_true h3, decide_eq_true (show i < k + 1 by omega)]
          · rw [decide_eq_false h3, decide_eq_false (show ¬ i < k + 1 by omega)]
        rw [e2]
theorem fg_mk_lt (p : Nat → Bool) {k : Nat} (hk : k ≤ 7) : fg_mk p k < 128 := by
  refine fg_lt fun i hi => ?_
  rw [fg_mk_tb, decide_eq_false (show ¬ i < k by omega), Bool.false_and]
/-- the two ways to join two numbers -/
def fg_op (md a b : Nat) : Nat := if md = 1 then max a b else a + b
theorem fg_op_c (md a b : Nat) : fg_op md a b = fg_op md b a := by
  unfold fg_op; split <;> omega
theorem fg_op_a (md a b c : Nat) : fg_op md (fg_op md a b) c = fg_op md a (fg_op md b c) := by
  unfold fg_op; split <;> omega
theorem fg_op_0 (md a : Nat) : fg_op md 0 a = a := by
  unfold fg_op; split <;> omega
theorem fg_op_0' (md a : Nat) : fg_op md a 0 = a := by
  unfold fg_op; split <;> omega
theorem fg_op_m (md p a b : Nat) : fg_op md (p * a) (p * b) = p * fg_op md a b := by
  unfold fg_op; split
  · exact Nat.mul_max_mul_left p a b
  · exact (Nat.mul_add p a b).symm
def fg_T (md : Nat) (g : Nat → Nat) (l : List Nat) : Nat := l.foldr (fun m acc => fg_op md (g m) acc) 0
theorem fg_T_nil (md : Nat) (g : Nat → Nat) : fg_T md g [] = 0 := rfl
theorem fg_T_cons (md : Nat) (g : Nat → Nat) (a : Nat) (l : List Nat) : fg_T md g (a :: l) = fg_op md (g a) (fg_T md g l) := rfl
theorem fg_T_app (md : Nat) (g : Nat → Nat) (l l' : List Nat) : fg_T md g (l ++ l') = fg_op md (fg_T md g l) (fg_T md g l') := by
  induction l with
  | nil => rw [List.nil_append, fg_T_nil, fg_op_0]
  | cons a l ih => rw [List.cons_append, fg_T_cons, fg_T_cons, ih, fg_op_a]
theorem fg_T_map (md : Nat) (g f : Nat → Nat) (l : List Nat) : fg_T md g (l.map f) = fg_T md (fun m => g (f m)) l := by
  induction l with
  | nil => rfl
  | cons a l ih => rw [List.map_cons, fg_T_cons, fg_T_cons, ih]
theorem fg_T_congr (md : Nat) {g h : Nat → Nat} {l : List Nat} (e : ∀ m, m ∈ l → g m = h m) : fg_T md g l = fg_T md h l := by
  induction l with
  | nil => rfl
  | cons a l ih => rw [fg_T_cons, fg_T_cons, e a (List.mem_cons_self ..), ih fun m hm => e m (List.mem_cons_of_mem _ hm)]
theorem fg_T_op (md : Nat) (g h : Nat → Nat) (l : List Nat) : fg_T md (fun m => fg_op md (g m) (h m)) l = fg_op md (fg_T md g l) (fg_T md h l) := by
  induction l with
  | nil => rw [fg_T_nil, fg_T_nil, fg_T_nil, fg_op_0]
  | cons a l ih =>
    rw [fg_T_cons, fg_T_cons, fg_T_cons, ih, fg_op_a, fg_op_a]
    refine congrArg (fg_op md (g a)) ?_
    rw [← fg_op_a, fg_op_c md (h a), fg_op_a]
theorem fg_T_fil (md : Nat) (g : Nat → Nat) (p : Nat → Bool) (l : List Nat) : fg_T md g (l.filter p) = fg_T md (fun m => if p m = true then g m else 0) l := by
  induction l with
  | nil => rfl
  | cons a l ih =>
    rw [fg_T_cons, ← ih]
    by_cases h : p a = true
    · rw [List.filter_cons_of_pos h, fg_T_cons, if_pos h]
    · rw [List.filter_cons_of_neg h, if_neg h, fg_op_0]
theorem fg_T_perm (md : Nat) (g : Nat → Nat) {l l' : List Nat} (p : List.Perm l l') : fg_T md g l = fg_T md g l' := by
  refine List.Perm.foldr_eq' p (fun x _ y _ z => ?_) 0
  show fg_op md (g y) (fg_op md (g x) z) = fg_op md (g x) (fg_op md (g y) z)
  rw [← fg_op_a, fg_op_c md (g y), fg_op_a]
theorem fg_T_z (md : Nat) {g : Nat → Nat} {l : List Nat} (e : ∀ m, m ∈ l → g m = 0) : fg_T md g l = 0 := by
  induction l with
  | nil => rfl
  | cons a l ih => rw [fg_T_cons, e a (List.mem_cons_self ..), ih fun m hm => e m (List.mem_cons_of_mem _ hm), fg_op_0]
theorem fg_perm2 : ∀ v, v < 7 → List.Perm (List.range 128) ((List.range 128).filter (fun m => !m.testBit v) ++ ((List.range 128).filter (fun m => !m.testBit v)).map (fun m => m ||| 2 ^ v)) := by decide +kernel
theorem fg_split (md : Nat) (g : Nat → Nat) (v : Nat) (hv : v < 7) : fg_T md g (List.range 128) = fg_T md (fun m => if m.testBit v = false then fg_op md (g m) (g (m ||| 2 ^ v)) else 0) (List.range 128) := by
  rw [fg_T_perm md g (fg_perm2 v hv), fg_T_app, fg_T_map, ← fg_T_op, fg_T_fil]
  refine fg_T_congr md fun m _ => ?_
  cases m.testBit v <;> rfl
theorem fg_permx {a : Nat} (ha : a < 128) : List.Perm ((List.range 128).map (fun m => m ^^^ a)) (List.range 128) := by
  have hx : ∀ m, (m ^^^ a) ^^^ a = m := fun m => by rw [Nat.xor_assoc, Nat.xor_self, Nat.xor_zero]
  refine (List.perm_ext_iff_of_nodup ?_ List.nodup_range).mpr fun x => ?_
  · refine List.Pairwise.map _ (fun x y hxy e => hxy ?_) List.nodup_range
    rw [← hx x, ← hx y]
    exact congrArg (fun z => z ^^^ a) e
  · rw [List.mem_map, List.mem_range]
    constructor
    · rintro ⟨m, hm, rfl⟩
      exact fg_xorlt (List.mem_range.mp hm) ha
    · intro h
      exact ⟨x ^^^ a, List.mem_range.mpr (fg_xorlt h ha), hx x⟩
theorem fg_T_xor (md : Nat) (g : Nat → Nat) {a : Nat} (ha : a < 128) : fg_T md (fun m => g (m ^^^ a)) (List.range 128) = fg_T md g (List.range 128) := by
  rw [← fg_T_map md g (fun m => m ^^^ a), fg_T_perm md g (fg_permx ha)]
/-- the fold as the reference reckons it -/
def fg_fo (md : Nat) (g : Nat → Nat) : Nat → Nat
  | 0 => 0
  | m + 1 => fg_op md (fg_fo md g m) (g m)
theorem fg_fo_T (md : Nat) (g : Nat → Nat) (n : Nat) : fg_fo md g n = fg_T md g (List.range n) := by
  induction n with
  | zero => rfl
  | succ n ih => rw [List.range_succ, fg_T_app, ← ih, fg_T_cons, fg_T_nil, fg_op_0']; rfl
theorem fg_fo_congr (md : Nat) {g h : Nat → Nat} {n : Nat} (e : ∀ m, m < n → g m = h m) : fg_fo md g n = fg_fo md h n := by
  rw [fg_fo_T, fg_fo_T]
  exact fg_T_congr md fun m hm => e m (List.mem_range.mp hm)
/-- over the subsets of a set -/
def fg_TL (md l : Nat) (g : Nat → Nat) : Nat := fg_fo md (fun m => if m &&& l = m then g m else 0) 128
theorem fg_TL_congr (md : Nat) {l : Nat} {g h : Nat → Nat} (e : ∀ m, m < 128 → m &&& l = m → g m = h m) : fg_TL md l g = fg_TL md l h := by
  refine fg_fo_congr md fun m hm => ?_
  by_cases c : m &&& l = m
  · rw [if_pos c, if_pos c, e m hm c]
  · rw [if_neg c, if_neg c]
theorem fg_TL_0 (md : Nat) (g : Nat → Nat) : fg_TL md 0 g = g 0 := by
  unfold fg_TL
  rw [fg_fo_T, show (128 : Nat) = 127 + 1 from rfl, List.range_succ_eq_map, fg_T_cons, fg_T_map, fg_T_z md, fg_op_0']
  · rw [if_pos (by decide)]
  · intro m _
    show (if (m + 1) &&& 0 = m + 1 then g (m + 1) else 0) = 0
    rw [Nat.and_zero, if_neg (by omega)]
theorem fg_clr {l v : Nat} (hl : l < 128) (i : Nat) : (l &&& (127 ^^^ 2 ^ v)).testBit i = (l.testBit i && decide (v ≠ i)) := by
  rw [Nat.testBit_and, Nat.testBit_xor, fg_127, Nat.testBit_two_pow]
  by_cases h7 : i < 7
  · rw [decide_eq_true h7]
    by_cases e : v = i
    · simp [e]
    · simp [e]
  · rw [fg_tb hl (by omega), Bool.false_and, Bool.false_and]
theorem fg_TL_step (md : Nat) (g : Nat → Nat) {l v : Nat} (hv : v < 7) (hl : l < 128) (hb : l.testBit v = true) :
    fg_TL md l g = fg_TL md (l &&& (127 ^^^ 2 ^ v)) (fun m => fg_op md (g m) (g (m ||| 2 ^ v))) := by
  unfold fg_TL
  rw [fg_fo_T, fg_fo_T, fg_split md _ v hv]
  refine fg_T_congr md fun m hm => ?_
  have hm := List.mem_range.mp hm
  have hl' := fun i => fg_clr (l := l) (v := v) hl i
  cases e : m.testBit v with
  | true =>
    rw [if_neg (by decide), if_neg]
    intro h
    have := fg_sub.mp h v e
    rw [hl'] at this
    simp at this
  | false =>
    rw [if_pos rfl]
    have c1 : m &&& l = m ↔ m &&& (l &&& (127 ^^^ 2 ^ v)) = m := by
      rw [fg_sub, fg_sub]
      refine forall_congr' fun i => ?_
      rw [hl']
      by_cases ei : v = i
      · subst ei; rw [e]; simp
      · simp [ei]
    have c2 : (m ||| 2 ^ v) &&& l = (m ||| 2 ^ v) ↔ m &&& (l &&& (127 ^^^ 2 ^ v)) = m := by
      rw [← c1, fg_sub, fg_sub]
      constructor
      · intro h i hi
        exact h i (by rw [Nat.testBit_or, hi]; rfl)
      · intro h i hi
        rw [Nat.testBit_or, Nat.testBit_two_pow, Bool.or_eq_true] at hi
        rcases hi with hi | hi
        · exact h i hi
        · rw [← of_decide_eq_true hi]; exact hb
    by_cases c : m &&& (l &&& (127 ^^^ 2 ^ v)) = m
    · rw [if_pos (c1.mpr c), if_pos (c2.mpr c), if_pos c]
    · rw [if_neg (fun z => c (c1.mp z)), if_neg (fun z => c (c2.mp z)), if_neg c, fg_op_0]
/-- products -/
def fg_pi (f : Nat → Nat) : Nat → Nat
  | 0 => 1
  | t + 1 => fg_pi f t * f t
theorem fg_pi_congr {f g : Nat → Nat} {k : Nat} (e : ∀ t, t < k → f t = g t) : fg_pi f k = fg_pi g k := by
  induction k with
  | zero => rfl
  | succ k ih =>
    show fg_pi f k * f k = fg_pi g k * g k
    rw [ih fun t h => e t (by omega), e k (by omega)]
theorem fg_pi_mul (f g : Nat → Nat) (k : Nat) : fg_pi (fun t => f t * g t) k = fg_pi f k * fg_pi g k := by
  induction k with
  | zero => rfl
  | succ k ih =>
    show fg_pi (fun t => f t * g t) k * (f k * g k) = (fg_pi f k * f k) * (fg_pi g k * g k)
    rw [ih, Nat.mul_mul_mul_comm]
theorem fg_pi_le {f g : Nat → Nat} {k : Nat} (e : ∀ t, t < k → f t ≤ g t) : fg_pi f k ≤ fg_pi g k := by
  induction k with
  | zero => exact Nat.le_refl _
  | succ k ih => exact Nat.mul_le_mul (ih fun t h => e t (by omega)) (e k (by omega))
theorem fg_pi_pos {f : Nat → Nat} {k : Nat} (e : ∀ t, t < k → 1 ≤ f t) : 1 ≤ fg_pi f k := by
  induction k with
  | zero => exact Nat.le_refl _
  | succ k ih =>
    show 1 ≤ fg_pi f k * f k
    exact Nat.mul_pos (ih fun t h => e t (by omega)) (e k (by omega))
theorem fg_pi_9 {f : Nat → Nat} {k : Nat} (e : ∀ t, t < k → f t ≤ 9) (hk : k ≤ 7) : fg_pi f k ≤ 4782969 := by
  have h : fg_pi f k ≤ 9 ^ k := by
    clear hk
    induction k with
    | zero => exact Nat.le_refl _
    | succ k ih => exact Nat.mul_le_mul (ih fun t h => e t (by omega)) (e k (by omega))
  exact Nat.le_trans h (Nat.pow_le_pow_right (by decide : 0 < 9) hk)
/-- how many bits -/
def fg_pc (l : Nat) : Nat → Nat
  | 0 => 0
  | v + 1 => fg_pc l v + fg_bn l v
theorem fg_pc_0 : ∀ l, l < 128 → fg_pc l 7 = 0 → l = 0 := by decide +kernel
theorem fg_pc_s : ∀ v, v < 7 → ∀ l, l < 128 → l.testBit v = true → fg_pc (l &&& (127 ^^^ 2 ^ v)) 7 + 1 = fg_pc l 7 := by decide +kernel
theorem fg_pc_le : ∀ l, l < 128 → fg_pc l 7 ≤ 7 := by decide +kernel
end
section
/-! tables: L t: table t lives, S t: its scope, D t: its numbers; what taking a variable out does -/
def fg_tm (L : Nat → Bool) (S : Nat → Nat) (D : Nat → Nat → Nat) (m t : Nat) : Nat := if L t = true then D t (m &&& S t) else 1
def fg_pv (L : Nat → Bool) (S : Nat → Nat) (D : Nat → Nat → Nat) (v m t : Nat) : Nat := if (L t && (S t).testBit v) = true then D t (m &&& S t) else 1
def fg_pr (L : Nat → Bool) (S : Nat → Nat) (D : Nat → Nat → Nat) (v m t : Nat) : Nat := if (L t && !(S t).testBit v) = true then D t (m &&& S t) else 1
def fg_F (L : Nat → Bool) (S : Nat → Nat) (D : Nat → Nat → Nat) (k m : Nat) : Nat := fg_pi (fg_tm L S D m) k
def fg_nb (L : Nat → Bool) (S : Nat → Nat) (v : Nat) : Nat → Nat
  | 0 => 2 ^ v
  | t + 1 => if (L t && (S t).testBit v) = true then fg_nb L S v t ||| S t else fg_nb L S v t
def fg_ov (L : Nat → Bool) (S : Nat → Nat) (v k : Nat) : Nat := fg_nb L S v k &&& (127 ^^^ 2 ^ v)
def fg_L' (L : Nat → Bool) (S : Nat → Nat) (v k t : Nat) : Bool := if t = k then true else (L t && !(S t).testBit v)
def fg_S' (L : Nat → Bool) (S : Nat → Nat) (v k t : Nat) : Nat := if t = k then fg_ov L S v k else S t
def fg_Dk (md : Nat) (L : Nat → Bool) (S : Nat → Nat) (D : Nat → Nat → Nat) (v k m : Nat) : Nat :=
  fg_op md (fg_pi (fg_pv L S D v m) k) (fg_pi (fg_pv L S D v (m ||| 2 ^ v)) k)
def fg_D' (md : Nat) (L : Nat → Bool) (S : Nat → Nat) (D : Nat → Nat → Nat) (v k t : Nat) : Nat → Nat := if t = k then fg_Dk md L S D v k else D t
section
variable {L : Nat → Bool} {S : Nat → Nat} {D : Nat → Nat → Nat}
theorem fg_F_split (v k m : Nat) : fg_F L S D k m = fg_pi (fg_pr L S D v m) k * fg_pi (fg_pv L S D v m) k := by
  rw [← fg_pi_mul]
  refine fg_pi_congr fun t _ => ?_
  unfold fg_tm fg_pr fg_pv
  cases L t <;> cases (S t).testBit v <;> simp
theorem fg_nb_lt {v k : Nat} (hv : v < 7) (hS : ∀ t, t < k → L t = true → S t < 128) : fg_nb L S v k < 128 := by
  induction k with
  | zero => exact fg_pw v hv
  | succ k ih =>
    have h := ih fun t ht => hS t (by omega)
    unfold fg_nb
    by_cases c : (L k && (S k).testBit v) = true
    · rw [if_pos c]
      exact fg_orlt h (hS k (by omega) (Bool.and_eq_true _ _ ▸ c).1)
    · rw [if_neg c]; exact h
theorem fg_nb_sub {v k t i : Nat} (ht : t < k) (hL : L t = true) (hb : (S t).testBit v = true) (hi : (S t).testBit i = true) : (fg_nb L S v k).testBit i = true := by
  induction k with
  | zero => omega
  | succ k ih =>
    unfold fg_nb
    by_cases e : t = k
    · subst e
      rw [if_pos (by rw [hL, hb]; rfl), Nat.testBit_or, hi, Bool.or_true]
    · have h := ih (by omega)
      by_cases c : (L k && (S k).testBit v) = true
      · rw [if_pos c, Nat.testBit_or, h, Bool.true_or]
      · rw [if_neg c]; exact h
theorem fg_nb_in {v k l : Nat} (hl : l.testBit v = true) (hS : ∀ t, t < k → L t = true → S t &&& l = S t) : fg_nb L S v k &&& l = fg_nb L S v k := by
  rw [fg_sub]
  induction k with
  | zero =>
    intro i hi
    unfold fg_nb at hi
    rw [Nat.testBit_two_pow] at hi
    rw [← of_decide_eq_true hi]; exact hl
  | succ k ih =>
    have h := ih fun t ht => hS t (by omega)
    intro i hi
    unfold fg_nb at hi
    by_cases c : (L k && (S k).testBit v) = true
    · rw [if_pos c, Nat.testBit_or, Bool.or_eq_true] at hi
      rcases hi with hi | hi
      · exact h i hi
      · exact fg_sub.mp (hS k (by omega) (Bool.and_eq_true _ _ ▸ c).1) i hi
    · rw [if_neg c] at hi; exact h i hi
theorem fg_ov_tb {v k : Nat} (h : fg_nb L S v k < 128) (i : Nat) : (fg_ov L S v k).testBit i = ((fg_nb L S v k).testBit i && decide (v ≠ i)) := fg_clr h i
theorem fg_F' {v k m : Nat} (md : Nat) (hv : v < 7) (hS : ∀ t, t < k → L t = true → S t < 128) (hm : m < 128) (hb : m.testBit v = false) :
    fg_F (fg_L' L S v k) (fg_S' L S v k) (fg_D' md L S D v k) (k + 1) m = fg_op md (fg_F L S D k m) (fg_F L S D k (m ||| 2 ^ v)) := by
  have hnb := fg_nb_lt hv hS
  have e1 : fg_pi (fg_tm (fg_L' L S v k) (fg_S' L S v k) (fg_D' md L S D v k) m) k = fg_pi (fg_pr L S D v m) k := by
    refine fg_pi_congr fun t ht => ?_
    have hn : ¬ t = k := by omega
    unfold fg_tm fg_pr fg_L' fg_S' fg_D'
    rw [if_neg hn, if_neg hn, if_neg hn]
  have e2 : fg_tm (fg_L' L S v k) (fg_S' L S v k) (fg_D' md L S D v k) m k = fg_Dk md L S D v k (m &&& fg_ov L S v k) := by
    unfold fg_tm fg_L' fg_S' fg_D'
    rw [if_pos rfl, if_pos rfl, if_pos rfl, if_pos rfl]
  have e3 : fg_pi (fg_pv L S D v (m &&& fg_ov L S v k)) k = fg_pi (fg_pv L S D v m) k := by
    refine fg_pi_congr fun t ht => ?_
    unfold fg_pv
    by_cases c : (L t && (S t).testBit v) = true
    · rw [if_pos c, if_pos c]
      have c := (Bool.and_eq_true _ _ ▸ c : L t = true ∧ (S t).testBit v = true)
      refine congrArg (D t) (Nat.eq_of_testBit_eq fun i => ?_)
      rw [Nat.testBit_and, Nat.testBit_and, Nat.testBit_and, fg_ov_tb hnb]
      cases a : m.testBit i with
      | false => rfl
      | true =>
        cases b : (S t).testBit i with
        | false => rw [Bool.and_false, Bool.and_false]
        | true =>
          have hne : v ≠ i := fun z => by rw [← z, hb] at a; exact absurd a (by decide)
          rw [fg_nb_sub ht c.1 c.2 b, decide_eq_true hne]; rfl
    · rw [if_neg c, if_neg c]
  have e4 : fg_pi (fg_pv L S D v ((m &&& fg_ov L S v k) ||| 2 ^ v)) k = fg_pi (fg_pv L S D v (m ||| 2 ^ v)) k := by
    refine fg_pi_congr fun t ht => ?_
    unfold fg_pv
    by_cases c : (L t && (S t).testBit v) = true
    · rw [if_pos c, if_pos c]
      have c := (Bool.and_eq_true _ _ ▸ c : L t = true ∧ (S t).testBit v = true)
      refine congrArg (D t) (Nat.eq_of_testBit_eq fun i => ?_)
      unfold fg_ov
      rw [Nat.testBit_and, Nat.testBit_and, Nat.testBit_or, Nat.testBit_or, Nat.testBit_and, fg_clr hnb, Nat.testBit_two_pow]
      by_cases hne : v = i
      · rw [decide_eq_true hne, Bool.or_true, Bool.or_true]
      · rw [decide_eq_false hne, Bool.or_false, Bool.or_false, decide_eq_true (show v ≠ i from hne), Bool.and_true]
        cases b : (S t).testBit i with
        | false => rw [Bool.and_false, Bool.and_false]
        | true => rw [fg_nb_sub ht c.1 c.2 b, Bool.and_true]
    · rw [if_neg c, if_neg c]
  have e5 : fg_pi (fg_pr L S D v (m ||| 2 ^ v)) k = fg_pi (fg_pr L S D v m) k := by
    refine fg_pi_congr fun t ht => ?_
    unfold fg_pr
    by_cases c : (L t && !(S t).testBit v) = true
    · rw [if_pos c, if_pos c]
      have c := (Bool.and_eq_true _ _ ▸ c : L t = true ∧ (!(S t).testBit v) = true)
      have c2 : (S t).testBit v = false := by
        cases z : (S t).testBit v with
        | false => rfl
        | true => rw [z] at c; exact absurd c.2 (by decide)
      refine congrArg (D t) (Nat.eq_of_testBit_eq fun i => ?_)
      rw [Nat.testBit_and, Nat.testBit_and, Nat.testBit_or, Nat.testBit_two_pow]
      by_cases hne : v = i
      · rw [← hne, c2, Bool.and_false, Bool.and_false]
      · rw [decide_eq_false hne, Bool.or_false]
    · rw [if_neg c, if_neg c]
  show fg_pi (fg_tm (fg_L' L S v k) (fg_S' L S v k) (fg_D' md L S D v k) m) k * fg_tm (fg_L' L S v k) (fg_S' L S v k) (fg_D' md L S D v k) m k = _
  rw [e1, e2, fg_F_split v k m, fg_F_split v k (m ||| 2 ^ v), e5, fg_op_m]
  unfold fg_Dk
  rw [e3, e4]
theorem fg_TL' {v k l : Nat} (md : Nat) (hv : v < 7) (hS : ∀ t, t < k → L t = true → S t < 128) (hl : l < 128) (hb : l.testBit v = true) :
    fg_TL md (l &&& (127 ^^^ 2 ^ v)) (fg_F (fg_L' L S v k) (fg_S' L S v k) (fg_D' md L S D v k) (k + 1)) = fg_TL md l (fg_F L S D k) := by
  rw [fg_TL_step md (fg_F L S D k) hv hl hb]
  refine fg_TL_congr md fun m hm hs => ?_
  refine fg_F' md hv hS hm ?_
  cases e : m.testBit v with
  | false => rfl
  | true =>
    have := fg_sub.mp hs v e
    rw [fg_clr hl] at this
    simp at this
/-- bounds, where the greater of two is taken -/
def fg_BD (L : Nat → Bool) (D : Nat → Nat → Nat) (k : Nat) (B : Nat → Nat) : Prop :=
  (∀ t, t < k → L t = true → 1 ≤ B t ∧ ∀ m, D t m ≤ B t) ∧ fg_pi (fun t => if L t = true then B t else 1) k ≤ 4782969
theorem fg_BD_pv {B : Nat → Nat} {k : Nat} (h : fg_BD L D k B) (v m : Nat) : fg_pi (fg_pv L S D v m) k ≤ 4782969 := by
  refine Nat.le_trans (fg_pi_le fun t ht => ?_) h.2
  unfold fg_pv
  show _ ≤ if L t = true then B t else 1
  cases e : L t with
  | false => simp
  | true =>
    have := h.1 t ht e
    rw [if_pos rfl]
    split
    · exact this.2 _
    · exact this.1
theorem fg_BD' {B : Nat → Nat} {k : Nat} (h : fg_BD L D k B) (v : Nat) : ∃ B', fg_BD (fg_L' L S v k) (fg_D' 1 L S D v k) (k + 1) B' := by
  have hle : ∀ m, fg_pi (fg_pv L S D v m) k ≤ fg_pi (fun t => if (L t && (S t).testBit v) = true then B t else 1) k := by
    intro m
    refine fg_pi_le fun t ht => ?_
    show fg_pv L S D v m t ≤ if (L t && (S t).testBit v) = true then B t else 1
    unfold fg_pv
    by_cases c : (L t && (S t).testBit v) = true
    · rw [if_pos c, if_pos c]
      exact (h.1 t ht (Bool.and_eq_true _ _ ▸ c).1).2 _
    · rw [if_neg c, if_neg c]
      exact Nat.le_refl _
  refine ⟨fun t => if t = k then fg_pi (fun t => if (L t && (S t).testBit v) = true then B t else 1) k else B t, ?_, ?_⟩
  · intro t ht hL
    unfold fg_D'
    unfold fg_L' at hL
    by_cases e : t = k
    · subst e
      dsimp only
      rw [if_pos rfl, if_pos rfl]
      refine ⟨fg_pi_pos fun t ht => ?_, fun m => ?_⟩
      · show 1 ≤ if (L t && (S t).testBit v) = true then B t else 1
        by_cases c : (L t && (S t).testBit v) = true
        · rw [if_pos c]
          exact (h.1 t ht (Bool.and_eq_true _ _ ▸ c).1).1
        · rw [if_neg c]; exact Nat.le_refl _
      · unfold fg_Dk fg_op
        rw [if_pos rfl]
        exact Nat.max_le.mpr ⟨hle _, hle _⟩
    · rw [if_neg e] at hL ⊢
      show 1 ≤ (if t = k then _ else _) ∧ ∀ m, _ ≤ (if t = k then _ else _)
      rw [if_neg e]
      exact h.1 t (by omega) (Bool.and_eq_true _ _ ▸ hL).1
  · show fg_pi (fun t => if fg_L' L S v k t = true then (if t = k then fg_pi (fun t => if (L t && (S t).testBit v) = true then B t else 1) k else B t) else 1) k * (if fg_L' L S v k k = true then (if k = k then fg_pi (fun t => if (L t && (S t).testBit v) = true then B t else 1) k else B k) else 1) ≤ 4782969
    have e1 : fg_L' L S v k k = true := by unfold fg_L'; rw [if_pos rfl]
    rw [e1, if_pos rfl, if_pos rfl, ← fg_pi_mul]
    refine Nat.le_trans (fg_pi_le fun t ht => ?_) h.2
    have hn : ¬ t = k := by omega
    show (if fg_L' L S v k t = true then (if t = k then _ else B t) else 1) * (if (L t && (S t).testBit v) = true then B t else 1) ≤ (if L t = true then B t else 1)
    unfold fg_L'
    rw [if_neg hn, if_neg hn]
    cases L t <;> cases (S t).testBit v <;> simp
/-- the scopes lie within l -/
def fg_IN (L : Nat → Bool) (S : Nat → Nat) (k l : Nat) : Prop := ∀ t, t < k → L t = true → S t &&& l = S t
theorem fg_IN' {v k l : Nat} (hv : v < 7) (hl : l < 128) (hb : l.testBit v = true) (hS : ∀ t, t < k → L t = true → S t < 128) (h : fg_IN L S k l) :
    fg_IN (fg_L' L S v k) (fg_S' L S v k) (k + 1) (l &&& (127 ^^^ 2 ^ v)) := by
  intro t ht hL
  unfold fg_L' at hL
  unfold fg_S'
  rw [fg_sub]
  intro i hi
  rw [fg_clr hl]
  by_cases e : t = k
  · rw [if_pos e] at hi
    unfold fg_ov at hi
    rw [fg_clr (fg_nb_lt hv hS), Bool.and_eq_true] at hi
    rw [fg_sub.mp (fg_nb_in hb h) i hi.1, hi.2]; rfl
  · rw [if_neg e] at hi hL
    have hL := (Bool.and_eq_true _ _ ▸ hL : L t = true ∧ (!(S t).testBit v) = true)
    have hne : v ≠ i := fun z => by rw [z, hi] at hL; exact absurd hL.2 (by decide)
    rw [fg_sub.mp (h t (by omega) hL.1) i hi, decide_eq_true hne]; rfl
/-- the tables as they lie in the arrays -/
def fg_TB (L : Nat → Bool) (S : Nat → Nat) (D : Nat → Nat → Nat) (k : Nat) (sc : Nat → Int32) (ta : Nat → Int64) : Prop :=
  ∀ t, t < k → (L t = true → S t < 128 ∧ sc t = nI (S t) ∧ ∀ m, m &&& S t = m → ta (t * 128 + m) = lN (D t m)) ∧ (L t = false → sc t = -1)
theorem fg_TB_S {k : Nat} {sc : Nat → Int32} {ta : Nat → Int64} (h : fg_TB L S D k sc ta) : ∀ t, t < k → L t = true → S t < 128 := fun t ht hL => ((h t ht).1 hL).1
theorem fg_TB_up {k i : Nat} {sc : Nat → Int32} {ta : Nat → Int64} {x : Int64} (h : fg_TB L S D k sc ta) (hi : k * 128 ≤ i) : fg_TB L S D k sc (vp_updL ta i x) := by
  intro t ht
  refine ⟨fun hL => ?_, (h t ht).2⟩
  have h1 := (h t ht).1 hL
  refine ⟨h1.1, h1.2.1, fun m hm => ?_⟩
  have := fg_sublt hm h1.1
  rw [pk_uLn (by omega)]
  exact h1.2.2 m hm
/-- the dead ones marked below t -/
def fg_kill (L : Nat → Bool) (S : Nat → Nat) (v : Nat) (sc : Nat → Int32) (t : Nat) : Nat → Int32 :=
  fun u => if u < t ∧ (L u && (S u).testBit v) = true then -1 else sc u
theorem fg_kill_0 (v : Nat) (sc : Nat → Int32) : fg_kill L S v sc 0 = sc := by
  funext u
  unfold fg_kill
  rw [if_neg (by omega)]
theorem fg_kill_at (v : Nat) (sc : Nat → Int32) (t : Nat) : fg_kill L S v sc t t = sc t := by
  unfold fg_kill
  rw [if_neg (by omega)]
theorem fg_kill_s {v t : Nat} {sc : Nat → Int32} (h : (L t && (S t).testBit v) = true) : upd (fg_kill L S v sc t) t (-1) = fg_kill L S v sc (t + 1) := by
  funext u
  by_cases e : u = t
  · subst e
    rw [pk_us]
    unfold fg_kill
    rw [if_pos ⟨by omega, h⟩]
  · rw [pk_un e]
    unfold fg_kill
    by_cases c : u < t
    · by_cases c2 : (L u && (S u).testBit v) = true
      · rw [if_pos ⟨c, c2⟩, if_pos ⟨by omega, c2⟩]
      · rw [if_neg (fun z => c2 z.2), if_neg (fun z => c2 z.2)]
    · rw [if_neg (fun z => c z.1), if_neg (fun z => by omega)]
theorem fg_kill_n {v t : Nat} {sc : Nat → Int32} (h : ¬ (L t && (S t).testBit v) = true) : fg_kill L S v sc t = fg_kill L S v sc (t + 1) := by
  funext u
  unfold fg_kill
  by_cases e : u = t
  · subst e
    rw [if_neg (fun z => h z.2), if_neg (fun z => h z.2)]
  · by_cases c2 : (L u && (S u).testBit v) = true
    · by_cases c : u < t
      · rw [if_pos ⟨c, c2⟩, if_pos ⟨by omega, c2⟩]
      · rw [if_neg (fun z => c z.1), if_neg (fun z => by omega)]
    · rw [if_neg (fun z => c2 z.2), if_neg (fun z => c2 z.2)]
theorem fg_TB' {md v k : Nat} {sc : Nat → Int32} {ta : Nat → Int64} (hv : v < 7) (h : fg_TB L S D k sc ta)
    (hk : ∀ m, m &&& fg_ov L S v k = m → ta (k * 128 + m) = lN (fg_Dk md L S D v k m)) :
    fg_TB (fg_L' L S v k) (fg_S' L S v k) (fg_D' md L S D v k) (k + 1) (upd (fg_kill L S v sc k) k (nI (fg_ov L S v k))) ta := by
  intro t ht
  unfold fg_L' fg_S' fg_D'
  by_cases e : t = k
  · subst e
    rw [if_pos rfl, if_pos rfl, if_pos rfl, pk_us]
    exact ⟨fun _ => ⟨fg_andlt' (fg_nb_lt hv (fg_TB_S h)), rfl, hk⟩, fun z => absurd z (by decide)⟩
  · rw [if_neg e, if_neg e, if_neg e, pk_un e]
    have h1 := h t (by omega)
    unfold fg_kill
    constructor
    · intro hL
      have hL := (Bool.and_eq_true _ _ ▸ hL : L t = true ∧ (!(S t).testBit v) = true)
      have h2 := h1.1 hL.1
      refine ⟨h2.1, ?_, h2.2.2⟩
      rw [if_neg]
      · exact h2.2.1
      · intro z
        have z := z.2
        rw [hL.1, Bool.true_and] at z
        rw [z] at hL
        exact absurd hL.2 (by decide)
    · intro hL
      cases a : L t with
      | false =>
        rw [a] at h1
        split
        · rfl
        · exact h1.2 rfl
      | true =>
        cases b : (S t).testBit v with
        | false => rw [a, b] at hL; exact absurd hL (by decide)
        | true => rw [if_pos ⟨by omega, rfl⟩]
end
end
section
/-! the component's walks over its tables: product, neighbours, cheapest, takeOut -/
theorem fg_pi_s (f : Nat → Nat) (t : Nat) : fg_pi f (t + 1) = fg_pi f t * f t := rfl
theorem fg_allz {l : Nat} (hl : l < 128) (h : ∀ u, u < 7 → l.testBit u = false) : l = 0 := by
  refine Nat.eq_of_testBit_eq fun i => ?_
  rw [Nat.zero_testBit]
  by_cases c : i < 7
  · exact h i c
  · exact fg_tb hl (by omega)
section
variable {L : Nat → Bool} {S : Nat → Nat} {D : Nat → Nat → Nat} {ff : Int32} {ar va we gi fx sc : Nat → Int32} {ta : Nat → Int64}
theorem fg_pv_1 {v m t : Nat} (h : ¬ (L t && (S t).testBit v) = true) : fg_pv L S D v m t = 1 := if_neg h
theorem fg_pv_D {v m t : Nat} (h : (L t && (S t).testBit v) = true) : fg_pv L S D v m t = D t (m &&& S t) := if_pos h
theorem fg_prod5 {k v m : Nat} (hk : k ≤ 16) (hv : v < 7) (hT : fg_TB L S D k sc ta) (post : Int64 → Prop)
    (h : post (lN (fg_pi (fg_pv L S D v m) k))) :
    ∀ d t, t + d = k → wX_product_5 post (nI v) (nI m) ff (nI k) ar va we gi fx sc ta (d + 1) (lN (fg_pi (fg_pv L S D v m) t)) (nI t) := by
  intro d
  induction d with
  | zero =>
    intro t ht
    have e : t = k := by omega
    subst e
    exact br_t (nI_le (Nat.le_refl _) (by omega)) h
  | succ d ih =>
    intro t ht
    have ec : (nI t).toNatClampNeg = t := nI_clamp (by omega)
    have hin : vp_in (nI t) 16 := vp_in_nI (by omega) (by omega)
    have ih := ih (t + 1) (by omega)
    have hT := hT t (by omega)
    refine br_f (nI_ge (by omega) (by omega)) ⟨hin, ?_⟩
    cases hL : L t with
    | false =>
      have hs : sc (nI t).toNatClampNeg < 0 := by rw [ec, hT.2 hL]; decide
      rw [fg_pi_s, fg_pv_1 (by rw [hL, Bool.false_and]; decide), Nat.mul_one] at ih
      exact br_t hs (nm_r (nI_1 t) ih)
    | true =>
      have hT := hT.1 hL
      have es : sc (nI t).toNatClampNeg = nI (S t) := by rw [ec, hT.2.1]
      have hs : ¬ sc (nI t).toNatClampNeg < 0 := by rw [es]; exact nI_pos (by omega)
      have eb : ((sc (nI t).toNatClampNeg) >>> (nI v &&& 31)) &&& 1 = nI (fg_bn (S t) v) := by rw [es, fg_bit v hv _ hT.1]
      refine br_f hs ⟨hin, ?_⟩
      cases hb : (S t).testBit v with
      | false =>
        rw [fg_pi_s, fg_pv_1 (by rw [hL, hb]; decide), Nat.mul_one] at ih
        exact br_f (by rw [eb, fg_bn_f hb]; decide +kernel) (nm_r (nI_1 t) ih)
      | true =>
        rw [fg_pi_s, fg_pv_D (by rw [hL, hb]; rfl)] at ih
        have hlt : m &&& S t < 128 := fg_andlt hT.1
        have ei : (nI t * 128) + (nI m &&& (sc (nI t).toNatClampNeg)) = nI (t * 128 + (m &&& S t)) := by
          rw [es, nx_and, show (128 : Int32) = nI 128 from rfl, pk_mul, nI_add]
        have hi2 : vp_in ((nI t * 128) + (nI m &&& (sc (nI t).toNatClampNeg))) 2048 := by
          rw [ei]; exact vp_in_nI (by omega) (by omega)
        have ev : lN (fg_pi (fg_pv L S D v m) t) * ta ((nI t * 128) + (nI m &&& (sc (nI t).toNatClampNeg))).toNatClampNeg = lN (fg_pi (fg_pv L S D v m) t * D t (m &&& S t)) := by
          rw [ei, nI_clamp (by omega), hT.2.2 _ (by rw [Nat.and_assoc, Nat.and_self]), lN_mul]
        exact br_t (by rw [eb, fg_bn_t hb]; rfl) ⟨hin, hi2, nm_r ev (nm_r (nI_1 t) ih)⟩
theorem fg_product {k v m : Nat} {x : Int32} (hk : k ≤ 16) (hv : v < 7) (hT : fg_TB L S D k sc ta) (hx : x = nI m) (post : Int64 → Prop)
    (h : post (lN (fg_pi (fg_pv L S D v m) k))) : wpX_product post (ff, nI k, ar, va, we, gi, fx, sc, ta) (nI v) x := by
  subst hx
  exact ⟨k + 1, fg_prod5 hk hv hT post h k 0 (by omega)⟩
theorem fg_nb6 {k v : Nat} (hk : k ≤ 16) (hv : v < 7) (hT : fg_TB L S D k sc ta) (post : Int32 → Prop)
    (h : post (nI (fg_nb L S v k))) :
    ∀ d t, t + d = k → wX_neighbours_6 post (nI v) ff (nI k) ar va we gi fx sc ta (d + 1) (nI (fg_nb L S v t)) (nI t) := by
  intro d
  induction d with
  | zero =>
    intro t ht
    have e : t = k := by omega
    subst e
    exact br_t (nI_le (Nat.le_refl _) (by omega)) h
  | succ d ih =>
    intro t ht
    have ec : (nI t).toNatClampNeg = t := nI_clamp (by omega)
    have hin : vp_in (nI t) 16 := vp_in_nI (by omega) (by omega)
    have ih := ih (t + 1) (by omega)
    have hT := hT t (by omega)
    refine br_f (nI_ge (by omega) (by omega)) ⟨hin, ?_⟩
    unfold fg_nb at ih
    cases hL : L t with
    | false =>
      have hs : sc (nI t).toNatClampNeg < 0 := by rw [ec, hT.2 hL]; decide
      rw [if_neg (by rw [hL, Bool.false_and]; decide)] at ih
      exact br_t hs (nm_r (nI_1 t) ih)
    | true =>
      have hT := hT.1 hL
      have es : sc (nI t).toNatClampNeg = nI (S t) := by rw [ec, hT.2.1]
      have hs : ¬ sc (nI t).toNatClampNeg < 0 := by rw [es]; exact nI_pos (by omega)
      have eb : ((sc (nI t).toNatClampNeg) >>> (nI v &&& 31)) &&& 1 = nI (fg_bn (S t) v) := by rw [es, fg_bit v hv _ hT.1]
      refine br_f hs ⟨hin, ?_⟩
      cases hb : (S t).testBit v with
      | false =>
        rw [if_neg (by rw [hL, hb]; decide)] at ih
        exact br_f (by rw [eb, fg_bn_f hb]; decide +kernel) (nm_r (nI_1 t) ih)
      | true =>
        rw [if_pos (by rw [hL, hb]; rfl)] at ih
        have ev : nI (fg_nb L S v t) ||| sc (nI t).toNatClampNeg = nI (fg_nb L S v t ||| S t) := by rw [es, fg_or]
        exact br_t (by rw [eb, fg_bn_t hb]; rfl) ⟨hin, nm_r ev (nm_r (nI_1 t) ih)⟩
theorem fg_nbr {k v : Nat} (hk : k ≤ 16) (hv : v < 7) (hT : fg_TB L S D k sc ta) (post : Int32 → Prop)
    (h : post (nI (fg_nb L S v k))) : wpX_neighbours post (ff, nI k, ar, va, we, gi, fx, sc, ta) (nI v) :=
  nm_r (fg_sh1 v hv) ⟨k + 1, fg_nb6 hk hv hT post h k 0 (by omega)⟩
theorem fg_bits4 (x0 : Int32) (post : Int32 → Prop) (h : ∀ b, b ≤ 7 → post (nI b)) :
    ∀ d t b, t + d = 7 → b ≤ t → wX_bits_4 post x0 (d + 1) (nI b) (nI t) := by
  intro d
  induction d with
  | zero =>
    intro t b ht hb
    exact br_t (nI_le (a := 7) (by omega) (by omega)) (h b (by omega))
  | succ d ih =>
    intro t b ht hb
    obtain ⟨j, hj, e⟩ := pk_andE (x0 >>> (nI t &&& 31)) (m := 1) 1 (by decide)
    have ev : nI b + ((x0 >>> (nI t &&& 31)) &&& 1) = nI (b + j) := by rw [e, nI_add]
    exact br_f (nI_ge (b := 7) (by omega) (by omega)) (nm_r ev (nm_r (nI_1 t) (ih (t + 1) (b + j) (by omega) (by omega))))
theorem fg_bits (x0 : Int32) (post : Int32 → Prop) (h : ∀ b, b ≤ 7 → post (nI b)) : wpX_bits post x0 :=
  ⟨8, fg_bits4 x0 post h 7 0 0 (by omega) (by omega)⟩
theorem fg_ch8 {k l : Nat} (hk : k ≤ 16) (hl : l < 128) (hl0 : l ≠ 0) (hT : fg_TB L S D k sc ta) (post : Int32 → Prop)
    (h : ∀ r, r < 7 → l.testBit r = true → post (nI r)) :
    ∀ d t x2 x3, t + d = 7 → ((x3 = nI 8 ∧ ∀ u, u < t → l.testBit u = false) ∨ ∃ r, r < 7 ∧ l.testBit r = true ∧ x2 = nI r) →
      wX_cheapest_8 post (nI l) ff (nI k) ar va we gi fx sc ta (d + 1) x2 x3 (nI t) := by
  intro d
  induction d with
  | zero =>
    intro t x2 x3 ht hI
    have e : t = 7 := by omega
    subst e
    refine br_t (nI_le (a := 7) (b := 7) (by omega) (by omega)) ?_
    rcases hI with hI | ⟨r, hr, hb, rfl⟩
    · exact absurd (fg_allz hl hI.2) hl0
    · exact h r hr hb
  | succ d ih =>
    intro t x2 x3 ht hI
    have eb := fg_bit t (by omega) l hl
    refine br_f (nI_ge (b := 7) (by omega) (by omega)) ?_
    cases hb : l.testBit t with
    | false =>
      refine br_f (by rw [eb, fg_bn_f hb]; decide +kernel) (nm_r (nI_1 t) (ih (t + 1) x2 x3 (by omega) ?_))
      rcases hI with hI | hI
      · refine Or.inl ⟨hI.1, fun u hu => ?_⟩
        by_cases c : u = t
        · rw [c]; exact hb
        · exact hI.2 u (by omega)
      · exact Or.inr hI
    | true =>
      refine br_t (by rw [eb, fg_bn_t hb]; rfl) (fg_nbr hk (by omega) hT _ (fg_bits _ _ fun b hb7 => ?_))
      refine br_c (fun hle => nm_r (nI_1 t) (ih (t + 1) x2 x3 (by omega) ?_)) (fun _ => nm_r (nI_1 t) (ih (t + 1) (nI t) (nI b) (by omega) (Or.inr ⟨t, by omega, hb, rfl⟩)))
      rcases hI with hI | hI
      · rw [hI.1] at hle
        exact absurd hle (nI_ge (by omega) (by omega))
      · exact Or.inr hI
theorem fg_cheapest {k l : Nat} (hk : k ≤ 16) (hl : l < 128) (hl0 : l ≠ 0) (hT : fg_TB L S D k sc ta) (post : Int32 → Prop)
    (h : ∀ r, r < 7 → l.testBit r = true → post (nI r)) : wpX_cheapest post (ff, nI k, ar, va, we, gi, fx, sc, ta) (nI l) :=
  ⟨8, fg_ch8 hk hl hl0 hT post h 7 0 (-1) 8 (by omega) (Or.inl ⟨rfl, fun u hu => by omega⟩)⟩
theorem fg_to114 {k v o : Nat} (hk : k ≤ 15) (hv : v < 7) (hT : fg_TB L S D k sc ta) (post : SX → Prop)
    (h : post (ff, nI (k + 1), ar, va, we, gi, fx, upd (fg_kill L S v sc k) k (nI o), ta)) :
    ∀ d t, t + d = k → wX_takeOut_114 post (nI v) (nI o) (nI k) ff (nI k) (d + 1) (nI t) ar va we gi fx (fg_kill L S v sc t) ta := by
  intro d
  induction d with
  | zero =>
    intro t ht
    have e : t = k := by omega
    subst e
    have eu : upd (fg_kill L S v sc t) (nI t).toNatClampNeg (nI o) = upd (fg_kill L S v sc t) t (nI o) := by rw [nI_clamp (by omega)]
    exact br_t (nI_le (Nat.le_refl _) (by omega)) ⟨vp_in_nI (by omega) (by omega), nm_r eu (nm_r (nI_1 t) h)⟩
  | succ d ih =>
    intro t ht
    have ec : (nI t).toNatClampNeg = t := nI_clamp (by omega)
    have hin : vp_in (nI t) 16 := vp_in_nI (by omega) (by omega)
    have ih := ih (t + 1) (by omega)
    have hT := hT t (by omega)
    have ek : fg_kill L S v sc t (nI t).toNatClampNeg = sc t := by rw [ec, fg_kill_at]
    refine br_f (nI_ge (by omega) (by omega)) ⟨hin, ?_⟩
    cases hL : L t with
    | false =>
      have hs : fg_kill L S v sc t (nI t).toNatClampNeg < 0 := by rw [ek, hT.2 hL]; decide
      rw [← fg_kill_n (by rw [hL, Bool.false_and]; decide)] at ih
      exact br_t hs (nm_r (nI_1 t) ih)
    | true =>
      have hT := hT.1 hL
      have es : fg_kill L S v sc t (nI t).toNatClampNeg = nI (S t) := by rw [ek, hT.2.1]
      have hs : ¬ fg_kill L S v sc t (nI t).toNatClampNeg < 0 := by rw [es]; exact nI_pos (by omega)
      have eb : ((fg_kill L S v sc t (nI t).toNatClampNeg) >>> (nI v &&& 31)) &&& 1 = nI (fg_bn (S t) v) := by rw [es, fg_bit v hv _ hT.1]
      refine br_f hs ⟨hin, ?_⟩
      cases hb : (S t).testBit v with
      | false =>
        rw [← fg_kill_n (by rw [hL, hb]; decide)] at ih
        exact br_f (by rw [eb, fg_bn_f hb]; decide +kernel) (nm_r (nI_1 t) ih)
      | true =>
        have eu : upd (fg_kill L S v sc t) (nI t).toNatClampNeg (-1) = fg_kill L S v sc (t + 1) := by
          rw [ec, fg_kill_s (by rw [hL, hb]; rfl)]
        exact br_t (by rw [eb, fg_bn_t hb]; rfl) ⟨hin, nm_r eu (nm_r (nI_1 t) ih)⟩
theorem fg_to21 {k v md : Nat} (hk : k ≤ 15) (hv : v < 7) (hmd : md < 3) (hB : md = 1 → ∃ B, fg_BD L D k B) (post : SX → Prop)
    (h : ∀ sc' ta', fg_TB (fg_L' L S v k) (fg_S' L S v k) (fg_D' md L S D v k) (k + 1) sc' ta' → post (ff, nI (k + 1), ar, va, we, gi, fx, sc', ta')) :
    ∀ d i (ta : Nat → Int64), i + d = 128 → fg_TB L S D k sc ta → (∀ m, m < i → m &&& fg_ov L S v k = m → ta (k * 128 + m) = lN (fg_Dk md L S D v k m)) →
      wX_takeOut_21 post (nI v) (nI md) (nI (fg_ov L S v k)) (nI k) ff (nI k) (d + 1) (nI i) ar va we gi fx sc ta := by
  intro d
  induction d with
  | zero =>
    intro i ta hi hT hw
    have e : i = 128 := by omega
    subst e
    have hov : fg_ov L S v k < 128 := fg_andlt' (fg_nb_lt hv (fg_TB_S hT))
    have h2 := fg_to114 (ff := ff) (ar := ar) (va := va) (we := we) (gi := gi) (fx := fx) hk hv hT post
      (h _ _ (fg_TB' (md := md) hv hT fun m hm => hw m (fg_sublt hm hov) hm)) k 0 (by omega)
    rw [fg_kill_0] at h2
    exact br_t (nI_le (a := 128) (b := 128) (by omega) (by omega)) ⟨k + 1, h2⟩
  | succ d ih =>
    intro i ta hi hT hw
    have hi128 : i < 128 := by omega
    have ec : nI i &&& (nI (fg_ov L S v k) ^^^ (-1)) = nI (i &&& (127 ^^^ fg_ov L S v k)) := fg_andn hi128
    have hl2 : i &&& (127 ^^^ fg_ov L S v k) < 128 := fg_andlt' hi128
    refine br_f (nI_ge (b := 128) (by omega) (by omega)) ?_
    by_cases hs : i &&& fg_ov L S v k = i
    · have hw2 : ∀ x, x = lN (fg_Dk md L S D v k i) → wX_takeOut_89 post (wX_takeOut_21 post (nI v) (nI md) (nI (fg_ov L S v k)) (nI k) ff (nI k) (d + 1)) (nI v) (nI md) (nI (fg_ov L S v k)) (nI k) (nI i) x ff (nI k) ar va we gi fx sc ta := by
        intro x ex
        have ei : (nI k * 128) + nI i = nI (k * 128 + i) := by rw [show (128 : Int32) = nI 128 from rfl, pk_mul, nI_add]
        have eu : vp_updL ta ((nI k * 128) + nI i).toNatClampNeg x = vp_updL ta (k * 128 + i) (lN (fg_Dk md L S D v k i)) := by
          rw [ei, nI_clamp (by omega), ex]
        have hin : vp_in ((nI k * 128) + nI i) 2048 := by rw [ei]; exact vp_in_nI (by omega) (by omega)
        refine ⟨hin, nm_r eu (nm_r (nI_1 i) (ih (i + 1) _ (by omega) (fg_TB_up hT (by omega)) fun m hm hms => ?_))⟩
        by_cases e : m = i
        · rw [e, pk_uLs]
        · rw [pk_uLn (by omega)]
          exact hw m (by omega) hms
      have em : nI i ||| ((1 : Int32) <<< (nI v &&& 31)) = nI (i ||| 2 ^ v) := by rw [fg_sh1 v hv, fg_or]
      refine br_t (by rw [ec, (fg_sub0 hi128).mpr hs]; rfl) (fg_product (by omega) hv hT rfl _ (fg_product (by omega) hv hT em _ (nm_e ?_)))
      by_cases c : md = 1
      · subst c
        obtain ⟨B, hB⟩ := hB rfl
        have b1 := fg_BD_pv (S := S) hB v i
        have b2 := fg_BD_pv (S := S) hB v (i ||| 2 ^ v)
        refine br_t rfl ?_
        refine br_c (fun hle => hw2 _ ?_) (fun hle => hw2 _ ?_)
        · rw [pk_lLE (by omega) (by omega)] at hle
          refine congrArg lN ?_
          unfold fg_Dk fg_op
          rw [if_pos rfl, Nat.max_eq_right hle]
        · rw [pk_lLE (by omega) (by omega)] at hle
          refine congrArg lN ?_
          unfold fg_Dk fg_op
          rw [if_pos rfl, Nat.max_eq_left (by omega)]
      · have c1 : ¬ nI md = 1 := fun z => c ((nI_eq (b := 1) (by omega) (by omega)).mp z)
        refine br_f c1 (hw2 _ ?_)
        rw [lN_add]
        refine congrArg lN ?_
        unfold fg_Dk fg_op
        rw [if_neg c]
    · have c : ¬ nI i &&& (nI (fg_ov L S v k) ^^^ (-1)) = 0 := by
        rw [ec]
        intro z
        exact hs ((fg_sub0 hi128).mp ((nI_eq (b := 0) (by omega) (by omega)).mp z))
      refine br_f c (nm_r (nI_1 i) (ih (i + 1) ta (by omega) hT fun m hm hms => ?_))
      by_cases e : m = i
      · rw [e] at hms; exact absurd hms hs
      · exact hw m (by omega) hms
theorem fg_takeOut {k v md : Nat} (hk : k ≤ 15) (hv : v < 7) (hmd : md < 3) (hT : fg_TB L S D k sc ta) (hB : md = 1 → ∃ B, fg_BD L D k B) (post : SX → Prop)
    (h : ∀ sc' ta', fg_TB (fg_L' L S v k) (fg_S' L S v k) (fg_D' md L S D v k) (k + 1) sc' ta' → post (ff, nI (k + 1), ar, va, we, gi, fx, sc', ta')) :
    wpX_takeOut post (ff, nI k, ar, va, we, gi, fx, sc, ta) (nI v) (nI md) := by
  have e : nI (fg_nb L S v k) &&& (((1 : Int32) <<< (nI v &&& 31)) ^^^ (-1)) = nI (fg_ov L S v k) := by
    rw [fg_sh1 v hv, fg_andn (fg_nb_lt hv (fg_TB_S hT))]; rfl
  exact fg_nbr (by omega) hv hT _ (nm_r e ⟨129, fg_to21 hk hv hmd hB post h 128 0 ta (by omega) hT (fun m hm => by omega)⟩)
end
end
section
/-! factors: their weights at a mask; the component's weightIn and loadTables -/
def fg_bv (M : Nat) (x : Int32) : Nat := if x < 0 then 0 else fg_bn M x.toNatClampNeg
def fg_wy (va : Nat → Int32) (M f : Nat) : Nat → Nat
  | 0 => 0
  | i + 1 => fg_wy va M f i + 2 ^ i * fg_bv M (va (f * 3 + i))
def fg_ix (va : Nat → Int32) (M f : Nat) : Nat := f * 8 + fg_wy va M f 3
def fg_wt (va we : Nat → Int32) (M f : Nat) : Nat := (we (fg_ix va M f)).toNatClampNeg
def fg_wm (md w : Nat) : Nat := if md = 2 ∧ 0 < w then 1 else w
def fg_W (we : Nat → Int32) : Prop := ∀ i, ∃ w, w ≤ 9 ∧ we i = nI w
def fg_V1 (va : Nat → Int32) (f q : Nat) : Prop := 1 ≤ q ∧ q ≤ 3 ∧ (∀ i, i < q → ∃ a, a < 7 ∧ va (f * 3 + i) = nI a) ∧ (∀ i, q ≤ i → i < 3 → va (f * 3 + i) = -1)
def fg_V (n : Nat) (va ar : Nat → Int32) : Prop := ∀ f, f < n → ∃ q, ar f = nI q ∧ fg_V1 va f q
def fg_G (fx : Nat → Int32) : Prop := ∀ v, v < 7 → fx v = -1 ∨ fx v = 0 ∨ fx v = 1
theorem fg_bv_le (M : Nat) (x : Int32) : fg_bv M x ≤ 1 := by
  unfold fg_bv
  split
  · omega
  · exact fg_bn_le _ _
theorem fg_bv_m (M : Nat) : fg_bv M (-1) = 0 := if_pos (by decide)
theorem fg_bv_n (M : Nat) {a : Nat} (ha : a < 7) : fg_bv M (nI a) = fg_bn M a := by
  unfold fg_bv
  rw [if_neg (nI_pos (by omega)), nI_clamp (by omega)]
theorem fg_wy_lt (va : Nat → Int32) (M f i : Nat) : fg_wy va M f i < 2 ^ i := by
  induction i with
  | zero => exact Nat.zero_lt_one
  | succ i ih =>
    show fg_wy va M f i + 2 ^ i * fg_bv M (va (f * 3 + i)) < 2 ^ (i + 1)
    have h := fg_bv_le M (va (f * 3 + i))
    have h2 : 2 ^ i * fg_bv M (va (f * 3 + i)) ≤ 2 ^ i * 1 := Nat.mul_le_mul_left _ h
    rw [Nat.pow_succ]
    omega
theorem fg_wy_3 {va : Nat → Int32} {M f q : Nat} (hV : fg_V1 va f q) : fg_wy va M f q = fg_wy va M f 3 := by
  obtain ⟨h1, h3, _, hz⟩ := hV
  have s : ∀ i, q ≤ i → i < 3 → fg_wy va M f (i + 1) = fg_wy va M f i := by
    intro i hi hi3
    show fg_wy va M f i + 2 ^ i * fg_bv M (va (f * 3 + i)) = _
    rw [hz i hi hi3, fg_bv_m, Nat.mul_zero, Nat.add_zero]
  have hq : q = 1 ∨ q = 2 ∨ q = 3 := by omega
  rcases hq with rfl | rfl | rfl
  · rw [s 2 (by omega) (by omega), s 1 (by omega) (by omega)]
  · rw [s 2 (by omega) (by omega)]
  · rfl
theorem fg_wt_at {va we : Nat → Int32} (hW : fg_W we) (M f : Nat) : we (fg_ix va M f) = nI (fg_wt va we M f) ∧ fg_wt va we M f ≤ 9 := by
  obtain ⟨w, hw, e⟩ := hW (fg_ix va M f)
  unfold fg_wt
  rw [e, nI_clamp (by omega)]
  exact ⟨rfl, hw⟩
theorem fg_ix_lt (va : Nat → Int32) (M : Nat) {f : Nat} (hf : f < 7) : fg_ix va M f < 56 := by
  have := fg_wy_lt va M f 3
  unfold fg_ix
  omega
theorem fg_way : ∀ i, i < 3 → ∀ w, w < 8 → ∀ b, b < 2 → w < 2 ^ i → nI w ||| (nI b <<< (nI i &&& 31)) = nI (w + 2 ^ i * b) := by decide +kernel
def fg_Fr (fx : Nat → Int32) : Nat := fg_mk (fun v => decide (fx v < 0)) 7
def fg_A (fx : Nat → Int32) : Nat := fg_mk (fun v => decide (fx v = 1)) 7
def fg_cp (fx : Nat → Int32) (m : Nat) : Nat := (m &&& fg_Fr fx) ||| fg_A fx
theorem fg_Fr_lt (fx : Nat → Int32) : fg_Fr fx < 128 := fg_mk_lt _ (Nat.le_refl 7)
theorem fg_A_lt (fx : Nat → Int32) : fg_A fx < 128 := fg_mk_lt _ (Nat.le_refl 7)
theorem fg_Fr_tb (fx : Nat → Int32) {v : Nat} (hv : v < 7) : (fg_Fr fx).testBit v = decide (fx v < 0) := by
  unfold fg_Fr
  rw [fg_mk_tb, decide_eq_true hv, Bool.true_and]
theorem fg_A_tb (fx : Nat → Int32) {v : Nat} (hv : v < 7) : (fg_A fx).testBit v = decide (fx v = 1) := by
  unfold fg_A
  rw [fg_mk_tb, decide_eq_true hv, Bool.true_and]
theorem fg_cp_lt (fx : Nat → Int32) (m : Nat) : fg_cp fx m < 128 := fg_orlt (fg_andlt (fg_Fr_lt fx)) (fg_A_lt fx)
theorem fg_n1 {x : Int32} (h : x < 0) : ¬ x = 1 := fun z => by rw [z] at h; exact absurd h (by decide)
theorem fg_cp_f {fx : Nat → Int32} {v : Nat} (m : Nat) (hv : v < 7) (h : fx v < 0) : (fg_cp fx m).testBit v = m.testBit v := by
  unfold fg_cp
  rw [Nat.testBit_or, Nat.testBit_and, fg_Fr_tb fx hv, fg_A_tb fx hv, decide_eq_true h, decide_eq_false (fg_n1 h), Bool.and_true, Bool.or_false]
theorem fg_cp_n {fx : Nat → Int32} {v : Nat} (m : Nat) (hv : v < 7) (h : ¬ fx v < 0) : (fg_cp fx m).testBit v = decide (fx v = 1) := by
  unfold fg_cp
  rw [Nat.testBit_or, Nat.testBit_and, fg_Fr_tb fx hv, fg_A_tb fx hv, decide_eq_false h, Bool.and_false, Bool.false_or]
theorem fg_cp_v {fx : Nat → Int32} {v : Nat} (hG : fg_G fx) (m : Nat) (hv : v < 7) (h : ¬ fx v < 0) : fx v = nI (fg_bn (fg_cp fx m) v) := by
  unfold fg_bn
  rw [fg_cp_n m hv h]
  rcases hG v hv with e | e | e
  · rw [e] at h; exact absurd (by decide) h
  · rw [e]; decide +kernel
  · rw [e]; decide +kernel
section
variable {ff ft : Int32} {ar va we gi fx sc : Nat → Int32} {ta : Nat → Int64}
theorem fg_valueIn {m a : Nat} {x : Int32} (hG : fg_G fx) (hm : m < 128) (ha : a < 7) (hx : x = nI a) (post : Int32 → Prop)
    (h : post (nI (fg_bn (fg_cp fx m) a))) : wpX_valueIn post (ff, ft, ar, va, we, gi, fx, sc, ta) (nI m) x := by
  subst hx
  have ec : (nI a).toNatClampNeg = a := nI_clamp (by omega)
  have hin : vp_in (nI a) 7 := vp_in_nI ha (by omega)
  refine ⟨hin, ?_⟩
  by_cases c : fx a < 0
  · refine br_t (by rw [ec]; exact c) ?_
    rw [fg_bit a ha m hm]
    have e : fg_bn (fg_cp fx m) a = fg_bn m a := by unfold fg_bn; rw [fg_cp_f m ha c]
    rw [e] at h
    exact h
  · refine br_f (by rw [ec]; exact c) ⟨hin, ?_⟩
    rw [ec, fg_cp_v hG m ha c]
    exact h
theorem fg_wI5 {m f q : Nat} (hf : f < 7) (hm : m < 128) (hW : fg_W we) (hq : ar f = nI q) (hV : fg_V1 va f q) (hG : fg_G fx) (post : Int32 → Prop)
    (h : post (nI (fg_wt va we (fg_cp fx m) f))) :
    ∀ d i, i + d = q → wX_weightIn_5 post (nI f) (nI m) ff ft ar va we gi fx sc ta (d + 1) (nI (fg_wy va (fg_cp fx m) f i)) (nI i) := by
  have ec : (nI f).toNatClampNeg = f := nI_clamp (by omega)
  have hin : vp_in (nI f) 7 := vp_in_nI hf (by omega)
  have hq3 : q ≤ 3 := hV.2.1
  intro d
  induction d with
  | zero =>
    intro i hi
    have e : i = q := by omega
    subst e
    have ei : (nI f * 8) + nI (fg_wy va (fg_cp fx m) f i) = nI (fg_ix va (fg_cp fx m) f) := by
      rw [show (8 : Int32) = nI 8 from rfl, pk_mul, nI_add, fg_wy_3 hV]; rfl
    have hl := fg_ix_lt va (fg_cp fx m) hf
    refine ⟨hin, br_t (by rw [ec, hq]; exact nI_le (Nat.le_refl _) (by omega)) ⟨?_, ?_⟩⟩
    · rw [ei]; exact vp_in_nI hl (by omega)
    · rw [ei, nI_clamp (by omega), (fg_wt_at hW _ _).1]; exact h
  | succ d ih =>
    intro i hi
    have ih := ih (i + 1) (by omega)
    obtain ⟨a, ha, ea⟩ := hV.2.2.1 i (by omega)
    have ei : (nI f * 3) + nI i = nI (f * 3 + i) := by rw [show (3 : Int32) = nI 3 from rfl, pk_mul, nI_add]
    have hw := fg_wy_lt va (fg_cp fx m) f i
    have hp : 2 ^ i ≤ 2 ^ 2 := Nat.pow_le_pow_right (by decide) (by omega)
    have hb := fg_bn_le (fg_cp fx m) a
    have ew : nI (fg_wy va (fg_cp fx m) f i) ||| (nI (fg_bn (fg_cp fx m) a) <<< (nI i &&& 31)) = nI (fg_wy va (fg_cp fx m) f (i + 1)) := by
      rw [fg_way i (by omega) _ (by omega) _ (by omega) hw]
      show _ = nI (fg_wy va (fg_cp fx m) f i + 2 ^ i * fg_bv (fg_cp fx m) (va (f * 3 + i)))
      rw [ea, fg_bv_n _ ha]
    refine ⟨hin, br_f (by rw [ec, hq]; exact nI_ge (by omega) (by omega)) ⟨?_, ?_⟩⟩
    · rw [ei]; exact vp_in_nI (by omega) (by omega)
    · exact fg_valueIn hG hm ha (by rw [ei, nI_clamp (by omega), ea]) _ (nm_r ew (nm_r (nI_1 i) ih))
theorem fg_weightIn {m f q : Nat} (hf : f < 7) (hm : m < 128) (hW : fg_W we) (hq : ar f = nI q) (hV : fg_V1 va f q) (hG : fg_G fx) (post : Int32 → Prop)
    (h : post (nI (fg_wt va we (fg_cp fx m) f))) : wpX_weightIn post (ff, ft, ar, va, we, gi, fx, sc, ta) (nI f) (nI m) :=
  ⟨q + 1, fg_wI5 hf hm hW hq hV hG post h q 0 (by omega)⟩
end
/-- the scope of a factor's first table -/
def fg_sF (fx va : Nat → Int32) (f : Nat) : Nat → Nat
  | 0 => 0
  | i + 1 => if fx (va (f * 3 + i)).toNatClampNeg < 0 then fg_sF fx va f i ||| 2 ^ (va (f * 3 + i)).toNatClampNeg else fg_sF fx va f i
def fg_S0 (fx va ar : Nat → Int32) (f : Nat) : Nat := fg_sF fx va f (ar f).toNatClampNeg
def fg_D0 (md : Nat) (fx va we : Nat → Int32) (f m : Nat) : Nat := fg_wm md (fg_wt va we (fg_cp fx m) f)
def fg_L0 (_ : Nat) : Bool := true
theorem fg_sF_Fr {fx va : Nat → Int32} {f q i : Nat} (hV : fg_V1 va f q) (hi : i ≤ q) : fg_sF fx va f i &&& fg_Fr fx = fg_sF fx va f i := by
  rw [fg_sub]
  induction i with
  | zero => intro j hj; rw [show fg_sF fx va f 0 = 0 from rfl, Nat.zero_testBit] at hj; exact absurd hj (by decide)
  | succ i ih =>
    have ih := ih (by omega)
    obtain ⟨a, ha, ea⟩ := hV.2.2.1 i (by omega)
    intro j hj
    unfold fg_sF at hj
    rw [ea, nI_clamp (by omega)] at hj
    by_cases c : fx a < 0
    · rw [if_pos c, Nat.testBit_or, Bool.or_eq_true] at hj
      rcases hj with hj | hj
      · exact ih j hj
      · rw [Nat.testBit_two_pow] at hj
        rw [← of_decide_eq_true hj, fg_Fr_tb fx ha]
        exact decide_eq_true c
    · rw [if_neg c] at hj
      exact ih j hj
theorem fg_sF_in {fx va : Nat → Int32} {f i k a : Nat} (ha : a < 7) (ea : va (f * 3 + i) = nI a) (hf : fx a < 0) (hi : i < k) : (fg_sF fx va f k).testBit a = true := by
  induction k with
  | zero => omega
  | succ k ih =>
    unfold fg_sF
    by_cases e : i = k
    · subst e
      rw [ea, nI_clamp (by omega), if_pos hf, Nat.testBit_or, Nat.testBit_two_pow, decide_eq_true rfl, Bool.or_true]
    · have ih := ih (by omega)
      split
      · rw [Nat.testBit_or, ih, Bool.true_or]
      · exact ih
theorem fg_wt_cp {fx va we : Nat → Int32} {f q : Nat} (m : Nat) (hV : fg_V1 va f q) :
    fg_wt va we (fg_cp fx (m &&& fg_sF fx va f q)) f = fg_wt va we (fg_cp fx m) f := by
  have hb : ∀ i, i < 3 → fg_bv (fg_cp fx (m &&& fg_sF fx va f q)) (va (f * 3 + i)) = fg_bv (fg_cp fx m) (va (f * 3 + i)) := by
    intro i hi
    by_cases c : i < q
    · obtain ⟨a, ha, ea⟩ := hV.2.2.1 i c
      rw [ea, fg_bv_n _ ha, fg_bv_n _ ha]
      unfold fg_bn
      by_cases c2 : fx a < 0
      · rw [fg_cp_f _ ha c2, fg_cp_f _ ha c2, Nat.testBit_and, fg_sF_in ha ea c2 c, Bool.and_true]
      · rw [fg_cp_n _ ha c2, fg_cp_n _ ha c2]
    · rw [hV.2.2.2 i (by omega) hi, fg_bv_m, fg_bv_m]
  unfold fg_wt fg_ix fg_wy fg_wy fg_wy
  rw [hb 0 (by omega), hb 1 (by omega), hb 2 (by omega)]
  rfl
theorem fg_upd2 (f : Nat → Int32) (k : Nat) (x y : Int32) : upd (upd f k x) k y = upd f k y := by
  funext j
  by_cases e : j = k
  · rw [e, pk_us, pk_us]
  · rw [pk_un e, pk_un e, pk_un e]
section
variable {ff ft : Int32} {ar va we gi fx sc : Nat → Int32}
theorem fg_lt80 {md f q : Nat} (J10 : Int32 → (Nat → Int32) → (Nat → Int32) → (Nat → Int32) → (Nat → Int32) → (Nat → Int32) → (Nat → Int32) → (Nat → Int64) → Prop)
    (post : SX → Prop) (hmd : md < 3) (hf : f < 7) (hW : fg_W we) (hq : ar f = nI q) (hV : fg_V1 va f q) (hG : fg_G fx) (hs : sc f = nI (fg_S0 fx va ar f)) (hs2 : fg_S0 fx va ar f < 128)
    (h : ∀ ta', fg_TB fg_L0 (fg_S0 fx va ar) (fg_D0 md fx va we) (f + 1) sc ta' → J10 (nI (f + 1)) ar va we gi fx sc ta') :
    ∀ d i (ta : Nat → Int64), i + d = 128 → fg_TB fg_L0 (fg_S0 fx va ar) (fg_D0 md fx va we) f sc ta → (∀ m, m < i → m &&& fg_S0 fx va ar f = m → ta (f * 128 + m) = lN (fg_D0 md fx va we f m)) →
      wX_loadTables_80 post J10 (nI md) (nI f) ff ft (d + 1) (nI i) ar va we gi fx sc ta := by
  have ec : (nI f).toNatClampNeg = f := nI_clamp (by omega)
  intro d
  induction d with
  | zero =>
    intro i ta hi hT hw
    have e : i = 128 := by omega
    subst e
    refine br_t (nI_le (a := 128) (b := 128) (by omega) (by omega)) (nm_r (nI_1 f) (h ta ?_))
    intro t ht
    by_cases e : t = f
    · rw [e]
      exact ⟨fun _ => ⟨hs2, hs, fun m hm => hw m (fg_sublt hm hs2) hm⟩, fun z => nomatch (show true = false from z)⟩
    · exact hT t (by omega)
  | succ d ih =>
    intro i ta hi hT hw
    have hi128 : i < 128 := by omega
    have ed : nI i &&& (sc (nI f).toNatClampNeg ^^^ (-1)) = nI (i &&& (127 ^^^ fg_S0 fx va ar f)) := by rw [ec, hs]; exact fg_andn hi128
    have hl2 : i &&& (127 ^^^ fg_S0 fx va ar f) < 128 := fg_andlt' hi128
    refine br_f (nI_ge (b := 128) (by omega) (by omega)) ⟨vp_in_nI (by omega) (by omega), ?_⟩
    by_cases hs3 : i &&& fg_S0 fx va ar f = i
    · have ei : (nI f * 128) + nI i = nI (f * 128 + i) := by rw [show (128 : Int32) = nI 128 from rfl, pk_mul, nI_add]
      have hin : vp_in ((nI f * 128) + nI i) 2048 := by rw [ei]; exact vp_in_nI (by omega) (by omega)
      have hw2 : ∀ x, x = lN (fg_D0 md fx va we f i) → ∀ y, y = vp_updL ta ((nI f * 128) + nI i).toNatClampNeg x → ∀ z, z = nI i + 1 → wX_loadTables_80 post J10 (nI md) (nI f) ff ft (d + 1) z ar va we gi fx sc y := by
        intro x ex
        have eu : vp_updL ta ((nI f * 128) + nI i).toNatClampNeg x = vp_updL ta (f * 128 + i) (lN (fg_D0 md fx va we f i)) := by
          rw [ei, nI_clamp (by omega), ex]
        refine nm_r eu (nm_r (nI_1 i) (ih (i + 1) _ (by omega) (fg_TB_up hT (by omega)) fun m hm hms => ?_))
        by_cases e : m = i
        · rw [e, pk_uLs]
        · rw [pk_uLn (by omega)]
          exact hw m (by omega) hms
      have hwt := (fg_wt_at (va := va) hW (fg_cp fx i) f).2
      refine br_t (by rw [ed, (fg_sub0 hi128).mpr hs3]; rfl) (fg_weightIn hf hi128 hW hq hV hG _ ?_)
      by_cases c : md = 2
      · subst c
        refine br_t rfl (br_c (fun hle => ⟨hin, hw2 _ ?_⟩) (fun hle => ⟨hin, hw2 _ ?_⟩))
        · rw [nI_l (by omega)]
          have : ¬ 0 < fg_wt va we (fg_cp fx i) f := fun z => nI_nle z (by omega) hle
          unfold fg_D0 fg_wm
          rw [if_neg (fun z => this z.2)]
        · have : 0 < fg_wt va we (fg_cp fx i) f := by
            refine Nat.pos_of_ne_zero fun z => hle ?_
            rw [z]; decide
          unfold fg_D0 fg_wm
          rw [if_pos ⟨rfl, this⟩]; rfl
      · have c1 : ¬ nI md = 2 := fun z => c ((nI_eq (b := 2) (by omega) (by omega)).mp z)
        refine br_f c1 ⟨hin, hw2 _ ?_⟩
        rw [nI_l (by omega)]
        unfold fg_D0 fg_wm
        rw [if_neg (fun z => c z.1)]
    · have c : ¬ nI i &&& (sc (nI f).toNatClampNeg ^^^ (-1)) = 0 := by
        rw [ed]
        intro z
        exact hs3 ((fg_sub0 hi128).mp ((nI_eq (b := 0) (by omega) (by omega)).mp z))
      refine br_f c (nm_r (nI_1 i) (ih (i + 1) ta (by omega) hT fun m hm hms => ?_))
      by_cases e : m = i
      · rw [e] at hms; exact absurd hms hs3
      · exact hw m (by omega) hms
theorem fg_lt27 {md f q : Nat} {ta : Nat → Int64} (J10 : Int32 → (Nat → Int32) → (Nat → Int32) → (Nat → Int32) → (Nat → Int32) → (Nat → Int32) → (Nat → Int32) → (Nat → Int64) → Prop)
    (post : SX → Prop) (hf : f < 7) (hq : ar f = nI q) (hV : fg_V1 va f q)
    (h : ∃ n80, wX_loadTables_80 post J10 (nI md) (nI f) ff ft n80 0 ar va we gi fx (upd sc f (nI (fg_sF fx va f q))) ta) :
    ∀ d i, i + d = q → wX_loadTables_27 post J10 (nI md) (nI f) ff ft (d + 1) (nI i) ar va we gi fx (upd sc f (nI (fg_sF fx va f i))) ta := by
  have ec : (nI f).toNatClampNeg = f := nI_clamp (by omega)
  have hq3 : q ≤ 3 := hV.2.1
  intro d
  induction d with
  | zero =>
    intro i hi
    have e : i = q := by omega
    subst e
    exact ⟨vp_in_nI hf (by omega), br_t (by rw [ec, hq]; exact nI_le (Nat.le_refl _) (by omega)) h⟩
  | succ d ih =>
    intro i hi
    have ih := ih (i + 1) (by omega)
    obtain ⟨a, ha, ea⟩ := hV.2.2.1 i (by omega)
    have ei : (nI f * 3) + nI i = nI (f * 3 + i) := by rw [show (3 : Int32) = nI 3 from rfl, pk_mul, nI_add]
    have ex : va ((nI f * 3) + nI i).toNatClampNeg = nI a := by rw [ei, nI_clamp (by omega), ea]
    have ea2 : (nI a).toNatClampNeg = a := nI_clamp (by omega)
    refine ⟨vp_in_nI hf (by omega), br_f (by rw [ec, hq]; exact nI_ge (by omega) (by omega)) ⟨?_, nm_r ex ⟨vp_in_nI ha (by omega), ?_⟩⟩⟩
    · rw [ei]; exact vp_in_nI (by omega) (by omega)
    · unfold fg_sF at ih
      rw [ea, ea2] at ih
      by_cases c : fx a < 0
      · rw [if_pos c] at ih
        have eu : upd (upd sc f (nI (fg_sF fx va f i))) (nI f).toNatClampNeg ((upd sc f (nI (fg_sF fx va f i)) (nI f).toNatClampNeg) ||| ((1 : Int32) <<< (nI a &&& 31))) = upd sc f (nI (fg_sF fx va f i ||| 2 ^ a)) := by
          rw [ec, pk_us, fg_upd2, fg_sh1 a ha, fg_or]
        refine br_f (by rw [ea2]; exact Int32.not_le.mpr c) ⟨vp_in_nI (by omega) (by omega), vp_in_nI (by omega) (by omega), nm_r eu (nm_r (nI_1 i) ih)⟩
      · rw [if_neg c] at ih
        exact br_t (by rw [ea2]; exact Int32.not_lt.mp c) (nm_r (nI_1 i) ih)
theorem fg_TB_sc {L : Nat → Bool} {S : Nat → Nat} {D : Nat → Nat → Nat} {k : Nat} {ta : Nat → Int64} {x : Int32} (h : fg_TB L S D k sc ta) : fg_TB L S D k (upd sc k x) ta := by
  intro t ht
  rw [pk_un (by omega)]
  exact h t ht
theorem fg_lt10 {md n : Nat} (post : SX → Prop) (hmd : md < 3) (hn : n ≤ 7) (hW : fg_W we) (hV : fg_V n va ar) (hG : fg_G fx)
    (h : ∀ sc' ta', fg_TB fg_L0 (fg_S0 fx va ar) (fg_D0 md fx va we) n sc' ta' → post (nI n, ft, ar, va, we, gi, fx, sc', ta')) :
    ∀ d f (sc : Nat → Int32) (ta : Nat → Int64), f + d = n → fg_TB fg_L0 (fg_S0 fx va ar) (fg_D0 md fx va we) f sc ta →
      wX_loadTables_10 post (nI md) (nI n) ft (d + 1) (nI f) ar va we gi fx sc ta := by
  intro d
  induction d with
  | zero =>
    intro f sc ta hf hT
    have e : f = n := by omega
    subst e
    exact br_t (nI_le (Nat.le_refl _) (by omega)) (h sc ta hT)
  | succ d ih =>
    intro f sc ta hf hT
    obtain ⟨q, hq, hV1⟩ := hV f (by omega)
    have hq3 : q ≤ 3 := hV1.2.1
    have eS : fg_S0 fx va ar f = fg_sF fx va f q := by unfold fg_S0; rw [hq, nI_clamp (by omega)]
    have eu : upd sc (nI f).toNatClampNeg 0 = upd sc f (nI (fg_sF fx va f 0)) := by rw [nI_clamp (by omega)]; rfl
    have hlt : fg_S0 fx va ar f < 128 := by rw [eS]; exact fg_sublt (fg_sF_Fr hV1 (Nat.le_refl _)) (fg_Fr_lt fx)
    refine br_f (nI_ge (by omega) (by omega)) ⟨vp_in_nI (by omega) (by omega), nm_r eu ⟨q + 1, ?_⟩⟩
    refine fg_lt27 _ post (by omega) hq hV1 ⟨129, ?_⟩ q 0 (by omega)
    refine fg_lt80 _ post hmd (by omega) hW hq hV1 hG (by rw [pk_us, eS]) hlt (fun ta' hT' => ih (f + 1) _ ta' (by omega) hT') 128 0 ta (by omega) (fg_TB_sc hT) (fun m hm => by omega)
theorem fg_load {md n : Nat} {ta : Nat → Int64} (post : SX → Prop) (hmd : md < 3) (hn : n ≤ 7) (hW : fg_W we) (hV : fg_V n va ar) (hG : fg_G fx)
    (h : ∀ sc' ta', fg_TB fg_L0 (fg_S0 fx va ar) (fg_D0 md fx va we) n sc' ta' → post (nI n, nI n, ar, va, we, gi, fx, sc', ta')) :
    wpX_loadTables post (nI n, ft, ar, va, we, gi, fx, sc, ta) (nI md) :=
  ⟨n + 1, fg_lt10 post hmd hn hW hV hG h n 0 sc ta (by omega) (fun t ht => by omega)⟩
end
end
section
/-! solve: what it answers is the fold over all allowed masks -/
def fg_al (fx : Nat → Int32) (M : Nat) : Bool := (List.range 7).all (fun v => decide (fx v < 0) || decide (fx v = nI (fg_bn M v)))
def fg_gw (md : Nat) (fx va we : Nat → Int32) (n M : Nat) : Nat := if fg_al fx M = true then fg_pi (fun f => fg_wm md (fg_wt va we M f)) n else 0
theorem fg_al_iff {fx : Nat → Int32} {M : Nat} : fg_al fx M = true ↔ ∀ v, v < 7 → fx v < 0 ∨ fx v = nI (fg_bn M v) := by
  unfold fg_al
  rw [List.all_eq_true]
  constructor
  · intro h v hv
    have h := h v (List.mem_range.mpr hv)
    rw [Bool.or_eq_true] at h
    rcases h with h | h
    · exact Or.inl (of_decide_eq_true h)
    · exact Or.inr (of_decide_eq_true h)
  · intro h v hv
    rw [Bool.or_eq_true]
    rcases h v (List.mem_range.mp hv) with h | h
    · exact Or.inl (decide_eq_true h)
    · exact Or.inr (decide_eq_true h)
theorem fg_bnv {fx : Nat → Int32} {M v : Nat} (h : fx v = nI (fg_bn M v)) : M.testBit v = decide (fx v = 1) := by
  rw [h]
  unfold fg_bn
  cases M.testBit v with
  | false => decide +kernel
  | true => decide +kernel
theorem fg_al_sub {fx : Nat → Int32} {M : Nat} (hG : fg_G fx) (hM : M < 128) : fg_al fx M = true ↔ (M ^^^ fg_A fx) &&& fg_Fr fx = M ^^^ fg_A fx := by
  rw [fg_al_iff, fg_sub]
  constructor
  · intro h i hi
    have hi7 : i < 7 := by
      refine Decidable.byContradiction fun z => ?_
      rw [fg_tb (fg_xorlt hM (fg_A_lt fx)) (by omega)] at hi
      exact absurd hi (by decide)
    rw [fg_Fr_tb fx hi7]
    rcases h i hi7 with h | h
    · exact decide_eq_true h
    · rw [Nat.testBit_xor, fg_A_tb fx hi7, fg_bnv h] at hi
      simp at hi
  · intro h v hv
    by_cases c : fx v < 0
    · exact Or.inl c
    · refine Or.inr ?_
      have h2 : (M ^^^ fg_A fx).testBit v = false := by
        cases z : (M ^^^ fg_A fx).testBit v with
        | false => rfl
        | true =>
          have := h v z
          rw [fg_Fr_tb fx hv] at this
          exact absurd (of_decide_eq_true this) c
      rw [Nat.testBit_xor, fg_A_tb fx hv] at h2
      have h3 : M.testBit v = decide (fx v = 1) := by
        revert h2
        cases M.testBit v <;> cases decide (fx v = 1) <;> simp
      unfold fg_bn
      rw [h3]
      rcases hG v hv with e | e | e
      · rw [e] at c; exact absurd (by decide) c
      · rw [e]; decide +kernel
      · rw [e]; decide +kernel
theorem fg_al_cp {fx : Nat → Int32} {M : Nat} (hM : M < 128) (h : fg_al fx M = true) : fg_cp fx (M ^^^ fg_A fx) = M := by
  rw [fg_al_iff] at h
  refine Nat.eq_of_testBit_eq fun i => ?_
  by_cases hi : i < 7
  · by_cases c : fx i < 0
    · rw [fg_cp_f _ hi c, Nat.testBit_xor, fg_A_tb fx hi, decide_eq_false (fg_n1 c), Bool.xor_false]
    · rw [fg_cp_n _ hi c]
      rcases h i hi with h | h
      · exact absurd h c
      · exact (fg_bnv h).symm
  · rw [fg_tb (fg_cp_lt _ _) (by omega), fg_tb hM (by omega)]
theorem fg_F0 {md n : Nat} {fx va we ar : Nat → Int32} (hV : fg_V n va ar) (m : Nat) :
    fg_F fg_L0 (fg_S0 fx va ar) (fg_D0 md fx va we) n m = fg_pi (fun f => fg_wm md (fg_wt va we (fg_cp fx m) f)) n := by
  refine fg_pi_congr fun f hf => ?_
  obtain ⟨q, hq, hV1⟩ := hV f hf
  have hq3 : q ≤ 3 := hV1.2.1
  show (if fg_L0 f = true then fg_D0 md fx va we f (m &&& fg_S0 fx va ar f) else 1) = fg_wm md (fg_wt va we (fg_cp fx m) f)
  rw [if_pos (show fg_L0 f = true from rfl)]
  unfold fg_D0 fg_S0
  rw [hq, nI_clamp (by omega), fg_wt_cp m hV1]
theorem fg_TL0 {md n : Nat} {fx va we ar : Nat → Int32} (hV : fg_V n va ar) (hG : fg_G fx) :
    fg_TL md (fg_Fr fx) (fg_F fg_L0 (fg_S0 fx va ar) (fg_D0 md fx va we) n) = fg_fo md (fg_gw md fx va we n) 128 := by
  unfold fg_TL
  rw [fg_fo_T, fg_fo_T, ← fg_T_xor md _ (fg_A_lt fx)]
  refine fg_T_congr md fun M hM => ?_
  have hM := List.mem_range.mp hM
  unfold fg_gw
  by_cases c : fg_al fx M = true
  · rw [if_pos c, if_pos ((fg_al_sub hG hM).mp c), fg_F0 hV, fg_al_cp hM c]
  · rw [if_neg c, if_neg (fun z => c ((fg_al_sub hG hM).mpr z))]
theorem fg_IN0 {n : Nat} {fx va ar : Nat → Int32} (hV : fg_V n va ar) : fg_IN fg_L0 (fg_S0 fx va ar) n (fg_Fr fx) := by
  intro f hf _
  obtain ⟨q, hq, hV1⟩ := hV f hf
  have hq3 : q ≤ 3 := hV1.2.1
  unfold fg_S0
  rw [hq, nI_clamp (by omega)]
  exact fg_sF_Fr hV1 (Nat.le_refl _)
theorem fg_BD0 {n : Nat} {fx va we : Nat → Int32} (hn : n ≤ 7) (hW : fg_W we) : fg_BD fg_L0 (fg_D0 1 fx va we) n (fun _ => 9) := by
  refine ⟨fun t _ _ => ⟨(by omega : 1 ≤ 9), fun m => ?_⟩, fg_pi_9 (fun t _ => ?_) hn⟩
  · unfold fg_D0 fg_wm
    rw [if_neg (fun z => absurd z.1 (by decide))]
    exact (fg_wt_at hW _ _).2
  · show (if fg_L0 t = true then 9 else 1) ≤ 9
    rw [if_pos (show fg_L0 t = true from rfl)]
    exact Nat.le_refl _
section
variable {ff ft : Int32} {ar va we gi fx : Nat → Int32}
theorem fg_s82 {L : Nat → Bool} {S : Nat → Nat} {D : Nat → Nat → Nat} {k : Nat} {sc : Nat → Int32} {ta : Nat → Int64} (hk : k ≤ 16) (hT : fg_TB L S D k sc ta) (hz : ∀ t, t < k → L t = true → S t = 0)
    (post : Int64 → SX → Prop) (h : post (lN (fg_F L S D k 0)) (ff, nI k, ar, va, we, gi, fx, sc, ta)) :
    ∀ d t, t + d = k → wX_solve_82 post ff (nI k) ar va we gi fx sc ta (d + 1) (lN (fg_pi (fg_tm L S D 0) t)) (nI t) := by
  intro d
  induction d with
  | zero =>
    intro t ht
    have e : t = k := by omega
    subst e
    exact br_t (nI_le (Nat.le_refl _) (by omega)) h
  | succ d ih =>
    intro t ht
    have ec : (nI t).toNatClampNeg = t := nI_clamp (by omega)
    have hin : vp_in (nI t) 16 := vp_in_nI (by omega) (by omega)
    have ih := ih (t + 1) (by omega)
    have hT := hT t (by omega)
    refine br_f (nI_ge (by omega) (by omega)) ⟨hin, ?_⟩
    rw [fg_pi_s] at ih
    cases hL : L t with
    | false =>
      have hs : ¬ sc (nI t).toNatClampNeg = 0 := by rw [ec, hT.2 hL]; decide
      rw [show fg_tm L S D 0 t = 1 from if_neg (by rw [hL]; decide), Nat.mul_one] at ih
      exact br_f hs (nm_r (nI_1 t) ih)
    | true =>
      have hT := hT.1 hL
      have hS := hz t (by omega) hL
      have hs : sc (nI t).toNatClampNeg = 0 := by rw [ec, hT.2.1, hS]; rfl
      have ei : nI t * 128 = nI (t * 128) := by rw [show (128 : Int32) = nI 128 from rfl, pk_mul]
      have ev : lN (fg_pi (fg_tm L S D 0) t) * ta (nI t * 128).toNatClampNeg = lN (fg_pi (fg_tm L S D 0) t * fg_tm L S D 0 t) := by
        have h0 := hT.2.2 0 (Nat.zero_and _)
        rw [Nat.add_zero] at h0
        rw [ei, nI_clamp (by omega), h0, lN_mul, show fg_tm L S D 0 t = D t (0 &&& S t) from if_pos hL, Nat.zero_and]
      exact br_t hs ⟨by rw [ei]; exact vp_in_nI (by omega) (by omega), nm_r ev (nm_r (nI_1 t) ih)⟩
theorem fg_sz {L : Nat → Bool} {S : Nat → Nat} {k : Nat} (hI : fg_IN L S k 0) : ∀ t, t < k → L t = true → S t = 0 := by
  intro t ht hL
  have := hI t ht hL
  rw [Nat.and_zero] at this
  exact this.symm
theorem fg_s38 {md : Nat} (hmd : md < 3) (post : Int64 → SX → Prop) :
    ∀ d i (L : Nat → Bool) (S : Nat → Nat) (D : Nat → Nat → Nat) (k l : Nat) (sc : Nat → Int32) (ta : Nat → Int64), i + d = 7 → k ≤ 7 + i → fg_TB L S D k sc ta → fg_IN L S k l → l < 128 → fg_pc l 7 + i ≤ 7 →
      (md = 1 → ∃ B, fg_BD L D k B) → (∀ k' sc' ta', post (lN (fg_TL md l (fg_F L S D k))) (ff, k', ar, va, we, gi, fx, sc', ta')) →
      wX_solve_38 post (nI md) (d + 1) (nI l) (nI i) ff (nI k) ar va we gi fx sc ta := by
  intro d
  induction d with
  | zero =>
    intro i L S D k l sc ta hi hk hT hI hl hp hB h
    have hl0 : l = 0 := fg_pc_0 l hl (by omega)
    subst hl0
    rw [fg_TL_0] at h
    exact br_t (nI_le (a := 7) (by omega) (by omega)) ⟨k + 1, fg_s82 (by omega) hT (fg_sz hI) post (h _ _ _) k 0 (by omega)⟩
  | succ d ih =>
    intro i L S D k l sc ta hi hk hT hI hl hp hB h
    refine br_f (nI_ge (b := 7) (by omega) (by omega)) ?_
    by_cases hl0 : l = 0
    · subst hl0
      rw [fg_TL_0] at h
      exact br_t rfl ⟨k + 1, fg_s82 (by omega) hT (fg_sz hI) post (h _ _ _) k 0 (by omega)⟩
    · refine br_f (nI_ne0 (by omega) (by omega)) (fg_cheapest (by omega) hl hl0 hT _ fun v hv hb => ?_)
      refine fg_takeOut (by omega) hv hmd hT hB _ fun sc' ta' hT' => ?_
      have hS := fg_TB_S hT
      have el : nI l &&& (((1 : Int32) <<< (nI v &&& 31)) ^^^ (-1)) = nI (l &&& (127 ^^^ 2 ^ v)) := by rw [fg_sh1 v hv, fg_andn hl]
      have hpc := fg_pc_s v hv l hl hb
      refine nm_r el (nm_r (nI_1 i) (ih (i + 1) _ _ _ (k + 1) (l &&& (127 ^^^ 2 ^ v)) sc' ta' (by omega) (by omega) hT' (fg_IN' hv hl hb hS hI) (fg_andlt' hl) (by omega) ?_ ?_))
      · intro e
        subst e
        obtain ⟨B, hB⟩ := hB rfl
        exact fg_BD' hB v
      · rw [fg_TL' md hv hS hl hb]
        exact h
theorem fg_s9 {md k : Nat} {sc : Nat → Int32} {ta : Nat → Int64} (post : Int64 → SX → Prop)
    (h : ∃ n38, wX_solve_38 post (nI md) n38 (nI (fg_Fr fx)) 0 ff (nI k) ar va we gi fx sc ta) :
    ∀ d t, t + d = 7 → wX_solve_9 post (nI md) ff (nI k) ar va we gi fx sc ta (d + 1) (nI (fg_mk (fun v => decide (fx v < 0)) t)) (nI t) := by
  intro d
  induction d with
  | zero =>
    intro t ht
    have e : t = 7 := by omega
    subst e
    exact br_t (nI_le (a := 7) (by omega) (by omega)) h
  | succ d ih =>
    intro t ht
    have ih := ih (t + 1) (by omega)
    have ec : (nI t).toNatClampNeg = t := nI_clamp (by omega)
    refine br_f (nI_ge (b := 7) (by omega) (by omega)) ⟨vp_in_nI (by omega) (by omega), ?_⟩
    unfold fg_mk at ih
    by_cases c : fx t < 0
    · rw [if_pos (decide_eq_true c)] at ih
      have ev : nI (fg_mk (fun v => decide (fx v < 0)) t) ||| ((1 : Int32) <<< (nI t &&& 31)) = nI (fg_mk (fun v => decide (fx v < 0)) t ||| 2 ^ t) := by
        rw [fg_sh1 t (by omega), fg_or]
      exact br_f (by rw [ec]; exact Int32.not_le.mpr c) (nm_r ev (nm_r (nI_1 t) ih))
    · rw [if_neg (by rw [decide_eq_false c]; decide)] at ih
      exact br_t (by rw [ec]; exact Int32.not_lt.mp c) (nm_r (nI_1 t) ih)
theorem fg_solve {md n : Nat} {sc : Nat → Int32} {ta : Nat → Int64} (hmd : md < 3) (hn : n ≤ 7) (hW : fg_W we) (hV : fg_V n va ar) (hG : fg_G fx) (post : Int64 → SX → Prop)
    (h : ∀ k' sc' ta', post (lN (fg_fo md (fg_gw md fx va we n) 128)) (nI n, k', ar, va, we, gi, fx, sc', ta')) :
    wpX_solve post (nI n, ft, ar, va, we, gi, fx, sc, ta) (nI md) := by
  refine fg_load (ft := ft) _ hmd hn hW hV hG fun sc' ta' hT => ⟨8, fg_s9 post ⟨8, ?_⟩ 7 0 (by omega)⟩
  refine fg_s38 hmd post 7 0 _ _ _ n (fg_Fr fx) sc' ta' (by omega) (by omega) hT (fg_IN0 hV) (fg_Fr_lt fx) (fg_pc_le _ (fg_Fr_lt fx)) ?_ ?_
  · intro e
    subst e
    exact ⟨_, fg_BD0 hn hW⟩
  · rw [fg_TL0 hV hG]
    exact h
end
end
section
/-! the reference's walks -/
def fg_wo (fx va we : Nat → Int32) (n M : Nat) : Nat := if fg_al fx M = true then fg_pi (fg_wt va we M) n else 0
def fg_VY (n : Nat) (va : Nat → Int32) : Prop := ∀ f, f < n → ∀ j, j < 3 → va (f * 3 + j) = -1 ∨ ∃ a, a < 7 ∧ va (f * 3 + j) = nI a
theorem fg_V_Y {n : Nat} {va ar : Nat → Int32} (h : fg_V n va ar) : fg_VY n va := by
  intro f hf j hj
  obtain ⟨q, _, hV⟩ := h f hf
  by_cases c : j < q
  · exact Or.inr (hV.2.2.1 j c)
  · exact Or.inl (hV.2.2.2 j (by omega) hj)
theorem fg_wo_le {fx va we : Nat → Int32} {n : Nat} (hn : n ≤ 7) (hW : fg_W we) (M : Nat) : fg_wo fx va we n M ≤ 4782969 := by
  unfold fg_wo
  split
  · exact fg_pi_9 (fun t _ => (fg_wt_at hW M t).2) hn
  · omega
theorem fg_fo1_le {g : Nat → Nat} {B : Nat} (h : ∀ m, g m ≤ B) (n : Nat) : fg_fo 1 g n ≤ B := by
  induction n with
  | zero => exact Nat.zero_le _
  | succ n ih =>
    show fg_op 1 (fg_fo 1 g n) (g n) ≤ B
    unfold fg_op
    rw [if_pos rfl]
    exact Nat.max_le.mpr ⟨ih, h n⟩
theorem fg_fo_s (md : Nat) (g : Nat → Nat) (m : Nat) : fg_fo md g (m + 1) = fg_op md (fg_fo md g m) (g m) := rfl
theorem fg_op_add (a b : Nat) : fg_op 0 a b = a + b := if_neg (by decide)
theorem fg_op_max (a b : Nat) : fg_op 1 a b = max a b := if_pos rfl
def fg_bad (x : Int32) : Prop := x < 0 ∨ nI 7 ≤ x
theorem fg_cls (x : Int32) : fg_bad x ∨ ∃ a, a < 7 ∧ x = nI a := by
  rcases pk_ix x (n := 7) (by decide) with h | h | h
  · exact Or.inl (Or.inl h)
  · exact Or.inl (Or.inr h)
  · exact Or.inr h
theorem fg_n6 {x : Int32} (h : nI 7 ≤ x) : ¬ x ≤ 6 := by
  rw [Int32.le_iff_toInt_le] at h ⊢
  rw [show (nI 7).toInt = 7 from by decide +kernel] at h
  rw [show (6 : Int32).toInt = 6 from by decide +kernel]
  omega
section
variable {n : Nat} {ff : Int32} {va we gi : Nat → Int32}
theorem fg_ybad {x : Int32} (h : fg_bad x) (post : Int32 → Prop) (hp : post 1) : wpY_bad post (ff, va, we, gi) x := by
  by_cases c : x < 0
  · exact br_t c hp
  · rcases h with h | h
    · exact absurd h c
    · exact br_f c (br_f (fg_n6 h) hp)
theorem fg_yok {a : Nat} (ha : a < 7) (post : Int32 → Prop) (hp : post 0) : wpY_bad post (ff, va, we, gi) (nI a) :=
  br_f (nI_pos (by omega)) (br_t (nI_le (b := 6) (by omega) (by omega)) hp)
theorem fg_yvalue {M : Nat} {x y : Int32} (hM : M < 128) (hy : y = x) (hx : x = -1 ∨ ∃ a, a < 7 ∧ x = nI a) (post : Int32 → Prop)
    (h : post (nI (fg_bv M x))) : wpY_value post (ff, va, we, gi) (nI M) y := by
  subst hy
  rcases hx with rfl | ⟨a, ha, rfl⟩
  · rw [fg_bv_m] at h
    exact br_f (by decide) h
  · rw [fg_bv_n M ha] at h
    refine br_t (nI_pos' (by omega)) ?_
    rw [fg_bit a ha M hM]
    exact h
theorem fg_yval {M a : Nat} (hM : M < 128) (ha : a < 7) (post : Int32 → Prop)
    (h : post (nI (fg_bn M a))) : wpY_value post (ff, va, we, gi) (nI M) (nI a) := by
  refine fg_yvalue hM rfl (Or.inr ⟨a, ha, rfl⟩) post ?_
  rw [fg_bv_n M ha]
  exact h
theorem fg_yal2 {M : Nat} (hM : M < 128) (post : Int32 → Prop) (h : post (if fg_al gi M = true then 1 else 0)) :
    ∀ d t, t + d = 7 → (∀ u, u < t → gi u < 0 ∨ gi u = nI (fg_bn M u)) → wY_allowed_2 post (nI M) ff va we gi (d + 1) (nI t) := by
  intro d
  induction d with
  | zero =>
    intro t ht hI
    rw [if_pos (fg_al_iff.mpr fun v hv => hI v (by omega))] at h
    exact br_t (nI_le (a := 7) (by omega) (by omega)) h
  | succ d ih =>
    intro t ht hI
    have ec : (nI t).toNatClampNeg = t := nI_clamp (by omega)
    have hin : vp_in (nI t) 7 := vp_in_nI (by omega) (by omega)
    have eb := fg_bit t (by omega) M hM
    refine br_f (nI_ge (b := 7) (by omega) (by omega)) ⟨hin, ?_⟩
    by_cases c : gi t < 0
    · refine br_t (by rw [ec]; exact c) (nm_r (nI_1 t) (ih (t + 1) (by omega) fun u hu => ?_))
      by_cases e : u = t
      · rw [e]; exact Or.inl c
      · exact hI u (by omega)
    · refine br_f (by rw [ec]; exact c) ⟨hin, ?_⟩
      by_cases c2 : gi t = nI (fg_bn M t)
      · refine br_t (by rw [ec, eb]; exact c2) (nm_r (nI_1 t) (ih (t + 1) (by omega) fun u hu => ?_))
        by_cases e : u = t
        · rw [e]; exact Or.inr c2
        · exact hI u (by omega)
      · refine br_f (by rw [ec, eb]; exact c2) ?_
        rw [if_neg] at h
        · exact h
        · intro z
          rcases fg_al_iff.mp z t (by omega) with z | z
          · exact c z
          · exact c2 z
theorem fg_yallowed {M : Nat} (hM : M < 128) (post : Int32 → Prop) (h : post (if fg_al gi M = true then 1 else 0)) :
    wpY_allowed post (ff, va, we, gi) (nI M) :=
  ⟨8, fg_yal2 hM post h 7 0 (by omega) (fun u hu => by omega)⟩
theorem fg_yw15 {M : Nat} (hM : M < 128) (hn : n ≤ 7) (hW : fg_W we) (hV : fg_VY n va) (post : Int64 → Prop) (h : post (lN (fg_pi (fg_wt va we M) n))) :
    ∀ d f, f + d = n → wY_worth_15 post (nI M) (nI n) va we gi (d + 1) (lN (fg_pi (fg_wt va we M) f)) (nI f) := by
  intro d
  induction d with
  | zero =>
    intro f hf
    have e : f = n := by omega
    subst e
    exact br_t (nI_le (Nat.le_refl _) (by omega)) h
  | succ d ih =>
    intro f hf
    have ih := ih (f + 1) (by omega)
    have hVf := hV f (by omega)
    have e0 : nI f * 3 = nI (f * 3) := by rw [show (3 : Int32) = nI 3 from rfl, pk_mul]
    have e1 : (nI f * 3) + 1 = nI (f * 3 + 1) := by rw [e0, nI_1]
    have e2 : (nI f * 3) + 2 = nI (f * 3 + 2) := by rw [e0, show (2 : Int32) = nI 2 from rfl, nI_add]
    have ei : ((((nI f * 8) + nI (fg_bv M (va (f * 3 + 0)))) + (2 * nI (fg_bv M (va (f * 3 + 1))))) + (4 * nI (fg_bv M (va (f * 3 + 2))))) = nI (fg_ix va M f) := by
      rw [show (8 : Int32) = nI 8 from rfl, show (2 : Int32) = nI 2 from rfl, show (4 : Int32) = nI 4 from rfl, pk_mul, pk_mul, pk_mul, nI_add, nI_add, nI_add]
      refine congrArg nI ?_
      unfold fg_ix fg_wy fg_wy fg_wy fg_wy
      omega
    have hl := fg_ix_lt va M (f := f) (by omega)
    have hw := fg_wt_at (va := va) hW M f
    have ev : lN (fg_pi (fg_wt va we M) f) * (we ((((nI f * 8) + nI (fg_bv M (va (f * 3 + 0)))) + (2 * nI (fg_bv M (va (f * 3 + 1))))) + (4 * nI (fg_bv M (va (f * 3 + 2))))).toNatClampNeg).toInt64 = lN (fg_pi (fg_wt va we M) (f + 1)) := by
      rw [ei, nI_clamp (by omega), hw.1, nI_l (by omega), lN_mul]; rfl
    refine br_f (nI_ge (by omega) (by omega)) ⟨by rw [e0]; exact vp_in_nI (by omega) (by omega), ?_⟩
    refine fg_yvalue hM (by rw [e0, nI_clamp (by omega)]; rfl) (hVf 0 (by omega)) _ ⟨by rw [e1]; exact vp_in_nI (by omega) (by omega), ?_⟩
    refine fg_yvalue hM (by rw [e1, nI_clamp (by omega)]) (hVf 1 (by omega)) _ ⟨by rw [e2]; exact vp_in_nI (by omega) (by omega), ?_⟩
    refine fg_yvalue hM (by rw [e2, nI_clamp (by omega)]) (hVf 2 (by omega)) _ ⟨by rw [ei]; exact vp_in_nI hl (by omega), ?_⟩
    exact nm_r ev (nm_r (nI_1 f) ih)
theorem fg_worth {M : Nat} (hM : M < 128) (hn : n ≤ 7) (hW : fg_W we) (hV : fg_VY n va) (post : Int64 → Prop) (h : post (lN (fg_wo gi va we n M))) :
    wpY_worth post (nI n, va, we, gi) (nI M) := by
  unfold fg_wo at h
  refine fg_yallowed hM _ ?_
  by_cases c : fg_al gi M = true
  · rw [if_pos c] at h ⊢
    exact br_f (by decide) ⟨n + 1, fg_yw15 hM hn hW hV post h n 0 (by omega)⟩
  · rw [if_neg c] at h ⊢
    exact br_t rfl h
theorem fg_ytotal (hn : n ≤ 7) (hW : fg_W we) (hV : fg_VY n va) (post : Int64 → Prop) (h : post (lN (fg_fo 0 (fg_wo gi va we n) 128))) :
    wpY_total post (nI n, va, we, gi) := by
  have L : ∀ d m, m + d = 128 → wY_total_4 post (nI n) va we gi (d + 1) (lN (fg_fo 0 (fg_wo gi va we n) m)) (nI m) := by
    intro d
    induction d with
    | zero =>
      intro m hm
      have e : m = 128 := by omega
      subst e
      exact br_t (nI_le (a := 128) (b := 128) (by omega) (by omega)) h
    | succ d ih =>
      intro m hm
      have ev : lN (fg_fo 0 (fg_wo gi va we n) m) + lN (fg_wo gi va we n m) = lN (fg_fo 0 (fg_wo gi va we n) (m + 1)) := by
        rw [lN_add, fg_fo_s, fg_op_add]
      exact br_f (nI_ge (b := 128) (by omega) (by omega)) (fg_worth (by omega) hn hW hV _ (nm_r ev (nm_r (nI_1 m) (ih (m + 1) (by omega)))))
  exact ⟨129, L 128 0 (by omega)⟩
def fg_gb (fx va we : Nat → Int32) (n a b M : Nat) : Nat := if fg_bn M a = 1 ∧ fg_bn M b = 1 then fg_wo fx va we n M else 0
theorem fg_yboth {a b : Nat} (ha : a < 7) (hb : b < 7) (hn : n ≤ 7) (hW : fg_W we) (hV : fg_VY n va) (post : Int64 → Prop) (h : post (lN (fg_fo 0 (fg_gb gi va we n a b) 128))) :
    wpY_both post (nI n, va, we, gi) (nI a) (nI b) := by
  have L : ∀ d m, m + d = 128 → wY_both_5 post (nI a) (nI b) (nI n) va we gi (d + 1) (lN (fg_fo 0 (fg_gb gi va we n a b) m)) (nI m) := by
    intro d
    induction d with
    | zero =>
      intro m hm
      have e : m = 128 := by omega
      subst e
      exact br_t (nI_le (a := 128) (b := 128) (by omega) (by omega)) h
    | succ d ih =>
      intro m hm
      have ih := ih (m + 1) (by omega)
      rw [fg_fo_s, fg_op_add] at ih
      have h1 := fg_bn_le m a
      have h2 := fg_bn_le m b
      refine br_f (nI_ge (b := 128) (by omega) (by omega)) (fg_yval (by omega) ha _ ?_)
      by_cases c : fg_bn m a = 1
      · refine br_t (by rw [c]; rfl) (fg_yval (by omega) hb _ ?_)
        by_cases c2 : fg_bn m b = 1
        · rw [show fg_gb gi va we n a b m = fg_wo gi va we n m from if_pos ⟨c, c2⟩] at ih
          exact br_t (by rw [c2]; rfl) (fg_worth (by omega) hn hW hV _ (nm_r (lN_add _ _) (nm_r (nI_1 m) ih)))
        · rw [show fg_gb gi va we n a b m = 0 from if_neg (fun z => c2 z.2), Nat.add_zero] at ih
          exact br_f (fun z => c2 ((nI_eq (b := 1) (by omega) (by omega)).mp z)) (nm_r (nI_1 m) ih)
      · rw [show fg_gb gi va we n a b m = 0 from if_neg (fun z => c z.1), Nat.add_zero] at ih
        exact br_f (fun z => c ((nI_eq (b := 1) (by omega) (by omega)).mp z)) (nm_r (nI_1 m) ih)
  exact ⟨129, L 128 0 (by omega)⟩
theorem fg_yshare {a : Nat} (ha : a < 7) (hn : n ≤ 7) (hW : fg_W we) (hV : fg_VY n va) (post : Int64 → Prop) (h : post (lN (fg_fo 0 (fg_gb gi va we n a a) 128))) :
    wpY_share post (nI n, va, we, gi) (nI a) := by
  dsimp only [wpY_share]
  exact fg_yok ha _ (br_t rfl (fg_yboth ha ha hn hW hV _ h))
def fg_ge (fx va we : Nat → Int32) (n a b M : Nat) : Nat := if fg_bn M a = fg_bn M b then fg_wo fx va we n M else 0
theorem fg_yalike {a b : Nat} (ha : a < 7) (hb : b < 7) (hn : n ≤ 7) (hW : fg_W we) (hV : fg_VY n va) (post : Int64 → Prop) (h : post (lN (fg_fo 0 (fg_ge gi va we n a b) 128))) :
    wpY_alike post (nI n, va, we, gi) (nI a) (nI b) := by
  have L : ∀ d m, m + d = 128 → wY_alike_5 post (nI a) (nI b) (nI n) va we gi (d + 1) (lN (fg_fo 0 (fg_ge gi va we n a b) m)) (nI m) := by
    intro d
    induction d with
    | zero =>
      intro m hm
      have e : m = 128 := by omega
      subst e
      exact br_t (nI_le (a := 128) (b := 128) (by omega) (by omega)) h
    | succ d ih =>
      intro m hm
      have ih := ih (m + 1) (by omega)
      rw [fg_fo_s, fg_op_add] at ih
      have h1 := fg_bn_le m a
      have h2 := fg_bn_le m b
      refine br_f (nI_ge (b := 128) (by omega) (by omega)) (fg_yok ha _ (br_t rfl (fg_yok hb _ (br_t rfl (fg_yval (by omega) ha _ (fg_yval (by omega) hb _ ?_))))))
      by_cases c : fg_bn m a = fg_bn m b
      · rw [show fg_ge gi va we n a b m = fg_wo gi va we n m from if_pos c] at ih
        exact br_t (by rw [c]) (fg_worth (by omega) hn hW hV _ (nm_r (lN_add _ _) (nm_r (nI_1 m) ih)))
      · rw [show fg_ge gi va we n a b m = 0 from if_neg c, Nat.add_zero] at ih
        exact br_f (fun z => c ((nI_eq (by omega) (by omega)).mp z)) (nm_r (nI_1 m) ih)
  exact ⟨129, L 128 0 (by omega)⟩
theorem fg_yalikeB {x y : Int32} (hb : fg_bad x ∨ fg_bad y) (post : Int64 → Prop) (h : post 0) :
    wpY_alike post (ff, va, we, gi) x y := by
  have L : ∀ d m, m + d = 128 → wY_alike_5 post x y ff va we gi (d + 1) 0 (nI m) := by
    intro d
    induction d with
    | zero =>
      intro m hm
      exact br_t (nI_le (a := 128) (by omega) (by omega)) h
    | succ d ih =>
      intro m hm
      have ih := ih (m + 1) (by omega)
      refine br_f (nI_ge (b := 128) (by omega) (by omega)) ?_
      rcases fg_cls x with hx | ⟨a, ha, rfl⟩
      · exact fg_ybad hx _ (br_f (by decide) (nm_r (nI_1 m) ih))
      · refine fg_yok ha _ (br_t rfl ?_)
        rcases fg_cls y with hy | ⟨b, hb2, rfl⟩
        · exact fg_ybad hy _ (br_f (by decide) (nm_r (nI_1 m) ih))
        · exfalso
          have key : ∀ c, c < 7 → ¬ fg_bad (nI c) := by
            intro c hc hz
            rcases hz with hz | hz
            · exact nI_pos (by omega) hz
            · exact nI_ge hc (by decide) hz
          rcases hb with hb | hb
          · exact key a ha hb
          · exact key b hb2 hb
  exact ⟨129, L 128 0 (by omega)⟩
theorem fg_ybest (hn : n ≤ 7) (hW : fg_W we) (hV : fg_VY n va) (post : Int64 → Prop) (h : post (lN (fg_fo 1 (fg_wo gi va we n) 128))) :
    wpY_best post (nI n, va, we, gi) := by
  have L : ∀ d m, m + d = 128 → wY_best_4 post (nI n) va we gi (d + 1) (lN (fg_fo 1 (fg_wo gi va we n) m)) (nI m) := by
    intro d
    induction d with
    | zero =>
      intro m hm
      have e : m = 128 := by omega
      subst e
      exact br_t (nI_le (a := 128) (b := 128) (by omega) (by omega)) h
    | succ d ih =>
      intro m hm
      have ih := ih (m + 1) (by omega)
      rw [fg_fo_s, fg_op_max] at ih
      have h1 := fg_wo_le (fx := gi) (va := va) hn hW m
      have h2 := fg_fo1_le (fg_wo_le (fx := gi) (va := va) hn hW) m
      refine br_f (nI_ge (b := 128) (by omega) (by omega)) (fg_worth (by omega) hn hW hV _ ?_)
      refine br_c (fun hle => ?_) (fun hle => ?_)
      · rw [pk_lLE (by omega) (by omega)] at hle
        rw [Nat.max_eq_left hle] at ih
        exact nm_r (nI_1 m) ih
      · rw [pk_lLE (by omega) (by omega)] at hle
        rw [Nat.max_eq_right (by omega)] at ih
        exact nm_r (nI_1 m) ih
  exact ⟨129, L 128 0 (by omega)⟩
theorem fg_ybestA {a : Nat} (hn : n ≤ 7) (hW : fg_W we) (hV : fg_VY n va) (ha : a < 128) (hal : fg_al gi a = true) (hwa : fg_wo gi va we n a = fg_fo 1 (fg_wo gi va we n) 128)
    (hmin : ∀ m, m < a → ¬ (fg_al gi m = true ∧ fg_wo gi va we n m = fg_fo 1 (fg_wo gi va we n) 128)) (post : Int32 → Prop) (h : post (nI a)) :
    wpY_bestAssignment post (nI n, va, we, gi) := by
  have L : ∀ d m, m + d = 128 → m ≤ a → wY_bestAssignment_7 post (lN (fg_fo 1 (fg_wo gi va we n) 128)) (nI n) va we gi (d + 1) (nI m) := by
    intro d
    induction d with
    | zero =>
      intro m hm hma
      omega
    | succ d ih =>
      intro m hm hma
      have h1 := fg_wo_le (fx := gi) (va := va) hn hW m
      have h2 := fg_fo1_le (fg_wo_le (fx := gi) (va := va) hn hW) 128
      refine br_f (nI_ge (b := 128) (by omega) (by omega)) (fg_yallowed (by omega) _ ?_)
      by_cases e : m = a
      · rw [e, if_pos hal]
        refine br_f (by decide) (fg_worth (by omega) hn hW hV _ (br_t (by rw [hwa]) h))
      · have ih := ih (m + 1) (by omega) (by omega)
        have hm2 := hmin m (by omega)
        by_cases c : fg_al gi m = true
        · rw [if_pos c]
          refine br_f (by decide) (fg_worth (by omega) hn hW hV _ (br_f (fun z => ?_) (nm_r (nI_1 m) ih)))
          exact hm2 ⟨c, (pk_lEQ (by omega) (by omega)).mp z⟩
        · rw [if_neg c]
          exact br_t rfl (nm_r (nI_1 m) ih)
  exact fg_ybest hn hW hV _ ⟨129, L 128 0 (by omega) (by omega)⟩
def fg_gp (fx va we : Nat → Int32) (n M : Nat) : Nat := if 0 < fg_wo fx va we n M then 1 else 0
theorem fg_ypossible (hn : n ≤ 7) (hW : fg_W we) (hV : fg_VY n va) (post : Int32 → Prop) (h : post (nI (fg_fo 0 (fg_gp gi va we n) 128))) :
    wpY_possible post (nI n, va, we, gi) := by
  have L : ∀ d m, m + d = 128 → wY_possible_4 post (nI n) va we gi (d + 1) (nI (fg_fo 0 (fg_gp gi va we n) m)) (nI m) := by
    intro d
    induction d with
    | zero =>
      intro m hm
      have e : m = 128 := by omega
      subst e
      exact br_t (nI_le (a := 128) (b := 128) (by omega) (by omega)) h
    | succ d ih =>
      intro m hm
      have ih := ih (m + 1) (by omega)
      rw [fg_fo_s, fg_op_add] at ih
      have h1 := fg_wo_le (fx := gi) (va := va) hn hW m
      refine br_f (nI_ge (b := 128) (by omega) (by omega)) (fg_worth (by omega) hn hW hV _ ?_)
      by_cases c : 0 < fg_wo gi va we n m
      · rw [show fg_gp gi va we n m = 1 from if_pos c] at ih
        refine br_f (fun z => ?_) (nm_r (nI_1 _) (nm_r (nI_1 m) ih))
        have z2 : lN (fg_wo gi va we n m) ≤ lN 0 := z
        rw [pk_lLE (by omega) (by omega)] at z2
        omega
      · rw [show fg_gp gi va we n m = 0 from if_neg c, Nat.add_zero] at ih
        have e0 : fg_wo gi va we n m = 0 := by omega
        refine br_t ?_ (nm_r (nI_1 m) ih)
        rw [e0]
        decide
  exact ⟨129, L 128 0 (by omega)⟩
end
end
section
/-! the component's questions -/
theorem fg_al_congr {fx fx' : Nat → Int32} (h : ∀ v, v < 7 → fx v = fx' v) (M : Nat) : fg_al fx M = fg_al fx' M := by
  rw [Bool.eq_iff_iff, fg_al_iff, fg_al_iff]
  refine forall_congr' fun v => forall_congr' fun hv => ?_
  rw [h v hv]
theorem fg_wo_congr {fx fx' va we : Nat → Int32} (h : ∀ v, v < 7 → fx v = fx' v) (n M : Nat) : fg_wo fx va we n M = fg_wo fx' va we n M := by
  unfold fg_wo
  rw [fg_al_congr h]
theorem fg_G_congr {fx gi : Nat → Int32} (h : ∀ v, v < 7 → fx v = gi v) (hG : fg_G gi) : fg_G fx := by
  intro v hv
  rw [h v hv]
  exact hG v hv
theorem fg_gw_wo {md : Nat} (hmd : md ≠ 2) (fx va we : Nat → Int32) (n M : Nat) : fg_gw md fx va we n M = fg_wo fx va we n M := by
  unfold fg_gw fg_wo
  rw [fg_pi_congr fun f _ => show (fun f => fg_wm md (fg_wt va we M f)) f = fg_wt va we M f from if_neg (fun z => hmd z.1)]
theorem fg_pi_2 (w : Nat → Nat) (n : Nat) : fg_pi (fun f => fg_wm 2 (w f)) n = if 0 < fg_pi w n then 1 else 0 := by
  induction n with
  | zero => rfl
  | succ n ih =>
    rw [fg_pi_s, fg_pi_s, ih]
    show (if 0 < fg_pi w n then 1 else 0) * fg_wm 2 (w n) = _
    by_cases c : 0 < w n
    · rw [show fg_wm 2 (w n) = 1 from if_pos ⟨rfl, c⟩, Nat.mul_one]
      by_cases c2 : 0 < fg_pi w n
      · rw [if_pos c2, if_pos (Nat.mul_pos c2 c)]
      · rw [if_neg c2, show fg_pi w n = 0 by omega, Nat.zero_mul]; rfl
    · rw [show fg_wm 2 (w n) = w n from if_neg (fun z => c z.2), show w n = 0 by omega, Nat.mul_zero, Nat.mul_zero]; rfl
theorem fg_gw_gp (fx va we : Nat → Int32) (n M : Nat) : fg_gw 2 fx va we n M = fg_gp fx va we n M := by
  unfold fg_gw fg_gp fg_wo
  by_cases c : fg_al fx M = true
  · rw [if_pos c, if_pos c, fg_pi_2]
  · rw [if_neg c, if_neg c]; rfl
theorem fg_al_upd {fx : Nat → Int32} {a x M : Nat} (ha : a < 7) (hx : x ≤ 1) (hf : fx a < 0 ∨ fx a = nI x) :
    fg_al (upd fx a (nI x)) M = true ↔ fg_al fx M = true ∧ fg_bn M a = x := by
  have hb := fg_bn_le M a
  rw [fg_al_iff, fg_al_iff]
  constructor
  · intro h
    have h1 : x = fg_bn M a := by
      rcases h a ha with z | z
      · rw [pk_us] at z; exact absurd z (nI_pos (by omega))
      · rw [pk_us] at z; exact (nI_eq (by omega) (by omega)).mp z
    refine ⟨fun v hv => ?_, h1.symm⟩
    by_cases e : v = a
    · rw [e, ← h1]; exact hf
    · have := h v hv
      rw [pk_un e] at this
      exact this
  · rintro ⟨h, h1⟩ v hv
    by_cases e : v = a
    · rw [e, pk_us, h1]; exact Or.inr rfl
    · rw [pk_un e]; exact h v hv
theorem fg_wo_upd {fx : Nat → Int32} {a x : Nat} (va we : Nat → Int32) (n M : Nat) (ha : a < 7) (hx : x ≤ 1) (hf : fx a < 0 ∨ fx a = nI x) :
    fg_wo (upd fx a (nI x)) va we n M = if fg_bn M a = x then fg_wo fx va we n M else 0 := by
  unfold fg_wo
  by_cases c : fg_bn M a = x
  · rw [if_pos c]
    by_cases c2 : fg_al fx M = true
    · rw [if_pos c2, if_pos ((fg_al_upd ha hx hf).mpr ⟨c2, c⟩)]
    · rw [if_neg c2, if_neg (fun z => c2 ((fg_al_upd ha hx hf).mp z).1)]
  · rw [if_neg c, if_neg (fun z => c ((fg_al_upd ha hx hf).mp z).2)]
theorem fg_wo_other {fx : Nat → Int32} {a x : Nat} (va we : Nat → Int32) (n M : Nat) (ha : a < 7) (h1 : ¬ fx a < 0) (h2 : ¬ fx a = nI x) (hb : fg_bn M a = x) : fg_wo fx va we n M = 0 := by
  unfold fg_wo
  rw [if_neg]
  intro z
  rcases fg_al_iff.mp z a ha with z | z
  · exact h1 z
  · rw [hb] at z; exact h2 z
theorem fg_fo_z (md : Nat) {g : Nat → Nat} (h : ∀ m, g m = 0) (n : Nat) : fg_fo md g n = 0 := by
  rw [fg_fo_T]
  exact fg_T_z md fun m _ => h m
theorem fg_G_upd {fx : Nat → Int32} {a x : Nat} (hG : fg_G fx) (hx : x ≤ 1) : fg_G (upd fx a (nI x)) := by
  intro v hv
  by_cases e : v = a
  · rw [e, pk_us]
    have : x = 0 ∨ x = 1 := by omega
    rcases this with rfl | rfl
    · exact Or.inr (Or.inl rfl)
    · exact Or.inr (Or.inr rfl)
  · rw [pk_un e]; exact hG v hv
theorem fg_upd_back (fx : Nat → Int32) (a : Nat) (x : Int32) : upd (upd fx a x) a (fx a) = fx := by
  funext j
  by_cases e : j = a
  · rw [e, pk_us]
  · rw [pk_un e, pk_un e]
def fg_gs (fx va we : Nat → Int32) (n a x M : Nat) : Nat := if fg_bn M a = x then fg_wo fx va we n M else 0
def fg_g2 (fx va we : Nat → Int32) (n a x b y M : Nat) : Nat := if fg_bn M b = y then fg_gs fx va we n a x M else 0
section
variable {n : Nat} {ff ft : Int32} {ar va we gi fx sc : Nat → Int32} {ta : Nat → Int64}
theorem fg_xbad {x : Int32} (h : fg_bad x) (post : Int32 → Prop) (hp : post 1) : wpX_bad post x := by
  by_cases c : x < 0
  · exact br_t c hp
  · rcases h with h | h
    · exact absurd h c
    · exact br_f c (br_f (Int32.not_lt.mpr h) hp)
theorem fg_xok {a : Nat} (ha : a < 7) (post : Int32 → Prop) (hp : post 0) : wpX_bad post (nI a) :=
  br_f (nI_pos (by omega)) (br_t (nI_lt (b := 7) ha (by omega)) hp)
theorem fg_fix (post : SX → Prop) (h : ∀ fx' : Nat → Int32, (∀ v, v < 7 → fx' v = gi v) → post (ff, ft, ar, va, we, gi, fx', sc, ta)) :
    wpX_fixAsGiven post (ff, ft, ar, va, we, gi, fx, sc, ta) := by
  have L : ∀ d t (fx : Nat → Int32), t + d = 7 → (∀ v, v < t → fx v = gi v) → wX_fixAsGiven_2 post ff ft (d + 1) (nI t) ar va we gi fx sc ta := by
    intro d
    induction d with
    | zero =>
      intro t fx ht hI
      exact br_t (nI_le (a := 7) (by omega) (by omega)) (h fx fun v hv => hI v (by omega))
    | succ d ih =>
      intro t fx ht hI
      have ec : (nI t).toNatClampNeg = t := nI_clamp (by omega)
      have hin : vp_in (nI t) 7 := vp_in_nI (by omega) (by omega)
      have eu : upd fx (nI t).toNatClampNeg (gi (nI t).toNatClampNeg) = upd fx t (gi t) := by rw [ec]
      refine br_f (nI_ge (b := 7) (by omega) (by omega)) ⟨hin, hin, nm_r eu (nm_r (nI_1 t) (ih (t + 1) _ (by omega) fun v hv => ?_))⟩
      by_cases e : v = t
      · rw [e, pk_us]
      · rw [pk_un e]; exact hI v (by omega)
  exact ⟨8, L 7 0 fx (by omega) (fun v hv => by omega)⟩
theorem fg_sw21 {a x : Nat} (ha : a < 7) (hx : x ≤ 1) (hn : n ≤ 7) (hW : fg_W we) (hV : fg_V n va ar) (hG : fg_G fx) (hf : fx a < 0 ∨ fx a = nI x) (post : Int64 → SX → Prop)
    (h : ∀ k' sc' ta', post (lN (fg_fo 0 (fg_gs fx va we n a x) 128)) (nI n, k', ar, va, we, gi, fx, sc', ta')) :
    wX_sumWith_21 post (nI a) (nI x) (nI n) ft ar va we gi fx sc ta := by
  have ec : (nI a).toNatClampNeg = a := nI_clamp (by omega)
  have hin : vp_in (nI a) 7 := vp_in_nI ha (by omega)
  have e1 : fx (nI a).toNatClampNeg = fx a := by rw [ec]
  have e2 : upd fx (nI a).toNatClampNeg (nI x) = upd fx a (nI x) := by rw [ec]
  have e3 : upd (upd fx a (nI x)) (nI a).toNatClampNeg (fx a) = fx := by rw [ec, fg_upd_back]
  have e4 : fg_fo 0 (fg_gw 0 (upd fx a (nI x)) va we n) 128 = fg_fo 0 (fg_gs fx va we n a x) 128 :=
    fg_fo_congr 0 fun M _ => by rw [fg_gw_wo (by decide), fg_wo_upd va we n M ha hx hf]; rfl
  refine ⟨hin, nm_r e1 ⟨hin, nm_r e2 ?_⟩⟩
  refine fg_solve (md := 0) (by decide) hn hW hV (fg_G_upd hG hx) _ fun k' sc' ta' => ⟨hin, nm_r e3 ?_⟩
  rw [e4]
  exact h k' sc' ta'
theorem fg_sumWith {a x : Nat} (ha : a < 7) (hx : x ≤ 1) (hn : n ≤ 7) (hW : fg_W we) (hV : fg_V n va ar) (hG : fg_G fx) (post : Int64 → SX → Prop)
    (h : ∀ k' sc' ta', post (lN (fg_fo 0 (fg_gs fx va we n a x) 128)) (nI n, k', ar, va, we, gi, fx, sc', ta')) :
    wpX_sumWith post (nI n, ft, ar, va, we, gi, fx, sc, ta) (nI a) (nI x) := by
  have ec : (nI a).toNatClampNeg = a := nI_clamp (by omega)
  have hin : vp_in (nI a) 7 := vp_in_nI ha (by omega)
  refine ⟨hin, ?_⟩
  by_cases c : fx a < 0
  · exact br_t (by rw [ec]; exact c) (fg_sw21 ha hx hn hW hV hG (Or.inl c) post h)
  · refine br_f (by rw [ec]; exact c) ⟨hin, ?_⟩
    by_cases c2 : fx a = nI x
    · exact br_t (by rw [ec]; exact c2) (fg_sw21 ha hx hn hW hV hG (Or.inr c2) post h)
    · refine br_f (by rw [ec]; exact c2) ?_
      have h := h ft sc ta
      rw [fg_fo_z 0 (fun M => ?_)] at h
      · exact h
      · unfold fg_gs
        by_cases c3 : fg_bn M a = x
        · rw [if_pos c3, fg_wo_other va we n M ha c c2 c3]
        · rw [if_neg c3]
theorem fg_sb21 {a x b y : Nat} (ha : a < 7) (hx : x ≤ 1) (hb : b < 7) (hy : y ≤ 1) (hn : n ≤ 7) (hW : fg_W we) (hV : fg_V n va ar) (hG : fg_G fx) (hf : fx a < 0 ∨ fx a = nI x) (post : Int64 → SX → Prop)
    (h : ∀ k' sc' ta', post (lN (fg_fo 0 (fg_g2 fx va we n a x b y) 128)) (nI n, k', ar, va, we, gi, fx, sc', ta')) :
    wX_sumWithBoth_21 post (nI a) (nI x) (nI b) (nI y) (nI n) ft ar va we gi fx sc ta := by
  have ec : (nI a).toNatClampNeg = a := nI_clamp (by omega)
  have hin : vp_in (nI a) 7 := vp_in_nI ha (by omega)
  have e1 : fx (nI a).toNatClampNeg = fx a := by rw [ec]
  have e2 : upd fx (nI a).toNatClampNeg (nI x) = upd fx a (nI x) := by rw [ec]
  have e3 : upd (upd fx a (nI x)) (nI a).toNatClampNeg (fx a) = fx := by rw [ec, fg_upd_back]
  have e4 : fg_fo 0 (fg_gs (upd fx a (nI x)) va we n b y) 128 = fg_fo 0 (fg_g2 fx va we n a x b y) 128 :=
    fg_fo_congr 0 fun M _ => by
      show (if fg_bn M b = y then fg_wo (upd fx a (nI x)) va we n M else 0) = _
      rw [fg_wo_upd va we n M ha hx hf]; rfl
  refine ⟨hin, nm_r e1 ⟨hin, nm_r e2 ?_⟩⟩
  refine fg_sumWith hb hy hn hW hV (fg_G_upd hG hx) _ fun k' sc' ta' => ⟨hin, nm_r e3 ?_⟩
  rw [e4]
  exact h k' sc' ta'
theorem fg_sumWithBoth {a x b y : Nat} (ha : a < 7) (hx : x ≤ 1) (hb : b < 7) (hy : y ≤ 1) (hn : n ≤ 7) (hW : fg_W we) (hV : fg_V n va ar) (hG : fg_G fx) (post : Int64 → SX → Prop)
    (h : ∀ k' sc' ta', post (lN (fg_fo 0 (fg_g2 fx va we n a x b y) 128)) (nI n, k', ar, va, we, gi, fx, sc', ta')) :
    wpX_sumWithBoth post (nI n, ft, ar, va, we, gi, fx, sc, ta) (nI a) (nI x) (nI b) (nI y) := by
  have ec : (nI a).toNatClampNeg = a := nI_clamp (by omega)
  have hin : vp_in (nI a) 7 := vp_in_nI ha (by omega)
  refine ⟨hin, ?_⟩
  by_cases c : fx a < 0
  · exact br_t (by rw [ec]; exact c) (fg_sb21 ha hx hb hy hn hW hV hG (Or.inl c) post h)
  · refine br_f (by rw [ec]; exact c) ⟨hin, ?_⟩
    by_cases c2 : fx a = nI x
    · exact br_t (by rw [ec]; exact c2) (fg_sb21 ha hx hb hy hn hW hV hG (Or.inr c2) post h)
    · refine br_f (by rw [ec]; exact c2) ?_
      have h := h ft sc ta
      rw [fg_fo_z 0 (fun M => ?_)] at h
      · exact h
      · unfold fg_g2 fg_gs
        by_cases c3 : fg_bn M a = x
        · rw [if_pos c3, fg_wo_other va we n M ha c c2 c3]
          split <;> rfl
        · rw [if_neg c3]
          split <;> rfl
end
/-! the best assignment -/
theorem fg_fo1_ge {g : Nat → Nat} {m n : Nat} (h : m < n) : g m ≤ fg_fo 1 g n := by
  induction n with
  | zero => omega
  | succ n ih =>
    rw [fg_fo_s, fg_op_max]
    by_cases e : m = n
    · rw [e]; exact Nat.le_max_right _ _
    · exact Nat.le_trans (ih (by omega)) (Nat.le_max_left _ _)
theorem fg_fo1_att (g : Nat → Nat) (n : Nat) : ∃ m, m < n + 1 ∧ g m = fg_fo 1 g (n + 1) := by
  induction n with
  | zero => exact ⟨0, by omega, by rw [fg_fo_s, fg_op_max]; exact (Nat.zero_max _).symm⟩
  | succ n ih =>
    obtain ⟨m, hm, e⟩ := ih
    rw [fg_fo_s 1 g (n + 1), fg_op_max]
    by_cases c : fg_fo 1 g (n + 1) ≤ g (n + 1)
    · exact ⟨n + 1, by omega, (Nat.max_eq_right c).symm⟩
    · exact ⟨m, by omega, by rw [e]; exact (Nat.max_eq_left (by omega)).symm⟩
theorem fg_att {fx va we : Nat → Int32} (hG : fg_G fx) (n : Nat) : ∃ M, M < 128 ∧ fg_al fx M = true ∧ fg_wo fx va we n M = fg_fo 1 (fg_wo fx va we n) 128 := by
  obtain ⟨M, hM, e⟩ := fg_fo1_att (fg_wo fx va we n) 127
  by_cases c : fg_al fx M = true
  · exact ⟨M, hM, c, e⟩
  · have e0 : fg_wo fx va we n M = 0 := if_neg c
    have e1 : fg_fo 1 (fg_wo fx va we n) 128 = 0 := by rw [e0] at e; exact e.symm
    have h := fg_fo1_ge (g := fg_wo fx va we n) (fg_cp_lt fx 0)
    refine ⟨fg_cp fx 0, fg_cp_lt fx 0, fg_al_iff.mpr fun v hv => ?_, by omega⟩
    by_cases c2 : fx v < 0
    · exact Or.inl c2
    · exact Or.inr (fg_cp_v hG 0 hv c2)
theorem fg_tb_lt {M a v : Nat} (h : ∀ u, v < u → M.testBit u = a.testBit u) (h0 : M.testBit v = false) (h1 : a.testBit v = true) : M < a := by
  have e : M / 2 ^ (v + 1) = a / 2 ^ (v + 1) := by
    refine Nat.eq_of_testBit_eq fun i => ?_
    rw [Nat.testBit_div_two_pow, Nat.testBit_div_two_pow]
    exact h _ (by omega)
  rw [Nat.pow_succ, ← Nat.div_div_eq_div_mul, ← Nat.div_div_eq_div_mul] at e
  rw [Nat.testBit_eq_decide_div_mod_eq] at h0 h1
  have h0 := of_decide_eq_false h0
  have h1 := of_decide_eq_true h1
  refine Nat.lt_of_not_le fun z => ?_
  have := Nat.div_le_div_right (c := 2 ^ v) z
  omega
def fg_hi (a j : Nat) : Nat := a / 2 ^ j * 2 ^ j
theorem fg_hi_s : ∀ j, j < 7 → ∀ a, a < 128 → nI (fg_hi a (j + 1)) ||| (nI (fg_bn a j) <<< (nI j &&& 31)) = nI (fg_hi a j) := by decide +kernel
theorem fg_hi_7 : ∀ a, a < 128 → fg_hi a 7 = 0 := by decide +kernel
theorem fg_hi_0 (a : Nat) : fg_hi a 0 = a := by
  unfold fg_hi
  rw [Nat.pow_zero, Nat.div_one, Nat.mul_one]
/-- fx: as given below j, as in a from j on -/
def fg_ba (gi fx : Nat → Int32) (a j : Nat) : Prop := (∀ v, v < j → fx v = gi v) ∧ (∀ v, j ≤ v → v < 7 → fx v = nI (fg_bn a v))
theorem fg_ba_al {gi fx : Nat → Int32} {a j : Nat} (ha : fg_al gi a = true) (h : fg_ba gi fx a j) : fg_al fx a = true := by
  rw [fg_al_iff] at ha ⊢
  intro v hv
  by_cases c : v < j
  · rw [h.1 v c]; exact ha v hv
  · exact Or.inr (h.2 v (by omega) hv)
theorem fg_ba_gi {gi fx : Nat → Int32} {a j M : Nat} (ha : fg_al gi a = true) (h : fg_ba gi fx a j) (hM : fg_al fx M = true) : fg_al gi M = true := by
  rw [fg_al_iff] at ha hM ⊢
  intro v hv
  by_cases c : v < j
  · rw [← h.1 v c]; exact hM v hv
  · rcases ha v hv with z | z
    · exact Or.inl z
    · have e := h.2 v (by omega) hv
      rcases hM v hv with y | y
      · rw [e] at y
        have := fg_bn_le a v
        exact absurd y (nI_pos (by omega))
      · rw [z, ← e, ← y]; exact Or.inr rfl
theorem fg_ba_G {gi fx : Nat → Int32} {a j : Nat} (hG : fg_G gi) (h : fg_ba gi fx a j) : fg_G fx := by
  intro v hv
  by_cases c : v < j
  · rw [h.1 v c]; exact hG v hv
  · rw [h.2 v (by omega) hv]
    unfold fg_bn
    split
    · exact Or.inr (Or.inr rfl)
    · exact Or.inr (Or.inl rfl)
theorem fg_ba_s {gi fx : Nat → Int32} {a j : Nat} {x : Int32} (h : fg_ba gi fx a (j + 1)) (e : x = nI (fg_bn a j)) : fg_ba gi (upd fx j x) a j := by
  refine ⟨fun v hv => ?_, fun v hv hv7 => ?_⟩
  · rw [pk_un (by omega)]; exact h.1 v (by omega)
  · by_cases c : v = j
    · rw [c, pk_us, e]
    · rw [pk_un c]; exact h.2 v (by omega) hv7
theorem fg_wo_sub {gi fx va we : Nat → Int32} {n : Nat} (h : ∀ M, fg_al fx M = true → fg_al gi M = true) : fg_fo 1 (fg_wo fx va we n) 128 ≤ fg_fo 1 (fg_wo gi va we n) 128 := by
  obtain ⟨M, hM, e⟩ := fg_fo1_att (fg_wo fx va we n) 127
  rw [← e]
  by_cases c : fg_al fx M = true
  · have e2 : fg_wo fx va we n M = fg_wo gi va we n M := by
      unfold fg_wo
      rw [if_pos c, if_pos (h M c)]
    rw [e2]
    exact fg_fo1_ge hM
  · rw [show fg_wo fx va we n M = 0 from if_neg c]
    exact Nat.zero_le _
theorem fg_wo_al {gi fx va we : Nat → Int32} {n M : Nat} (h1 : fg_al fx M = true) (h2 : fg_al gi M = true) : fg_wo fx va we n M = fg_wo gi va we n M := by
  unfold fg_wo
  rw [if_pos h1, if_pos h2]
/-- with j fixed to 0 the greatest worth can be had: then a has 0 there -/
theorem fg_ba_eq {gi fx va we : Nat → Int32} {n a j : Nat} (hG : fg_G gi) (hj : j < 7) (ha128 : a < 128) (ha : fg_al gi a = true)
    (hmin : ∀ m, m < a → ¬ (fg_al gi m = true ∧ fg_wo gi va we n m = fg_fo 1 (fg_wo gi va we n) 128))
    (h : fg_ba gi fx a (j + 1)) (hf : fx j < 0) (e : fg_fo 1 (fg_wo (upd fx j (nI 0)) va we n) 128 = fg_fo 1 (fg_wo gi va we n) 128) : fg_bn a j = 0 := by
  obtain ⟨M, hM, hal, hw⟩ := fg_att (va := va) (we := we) (fg_G_upd (a := j) (x := 0) (fg_ba_G hG h) (by omega)) n
  have h2 := (fg_al_upd hj (by omega) (Or.inl hf)).mp hal
  have h3 := fg_ba_gi ha h h2.1
  cases c : a.testBit j with
  | false => exact fg_bn_f c
  | true =>
    exfalso
    have hlt : M < a := by
      refine fg_tb_lt (v := j) (fun u hu => ?_) ?_ c
      · by_cases c7 : u < 7
        · have h4 := h.2 u (by omega) c7
          have h5 := fg_al_iff.mp h2.1 u c7
          have b1 := fg_bn_le a u
          have b2 := fg_bn_le M u
          rcases h5 with h5 | h5
          · rw [h4] at h5; exact absurd h5 (nI_pos (by omega))
          · rw [h4] at h5
            have h6 := (nI_eq (by omega) (by omega)).mp h5
            cases x : M.testBit u <;> cases y : a.testBit u
            · rfl
            · rw [fg_bn_f x, fg_bn_t y] at h6; omega
            · rw [fg_bn_t x, fg_bn_f y] at h6; omega
            · rfl
        · rw [fg_tb hM (by omega), fg_tb ha128 (by omega)]
      · cases x : M.testBit j with
        | false => rfl
        | true => have := fg_bn_t x; omega
    refine hmin M hlt ⟨h3, ?_⟩
    rw [← e, ← hw, fg_wo_al hal h3]
/-- if it can't be had, a has 1 there -/
theorem fg_ba_ne {gi fx va we : Nat → Int32} {n a j : Nat} (hj : j < 7) (ha128 : a < 128) (ha : fg_al gi a = true) (hwa : fg_wo gi va we n a = fg_fo 1 (fg_wo gi va we n) 128)
    (h : fg_ba gi fx a (j + 1)) (hf : fx j < 0) (e : ¬ fg_fo 1 (fg_wo (upd fx j (nI 0)) va we n) 128 = fg_fo 1 (fg_wo gi va we n) 128) : fg_bn a j = 1 := by
  cases c : a.testBit j with
  | true => exact fg_bn_t c
  | false =>
    exfalso
    have h1 : fg_al (upd fx j (nI 0)) a = true := (fg_al_upd hj (by omega) (Or.inl hf)).mpr ⟨fg_ba_al ha h, fg_bn_f c⟩
    have h2 : fg_fo 1 (fg_wo (upd fx j (nI 0)) va we n) 128 ≤ fg_fo 1 (fg_wo gi va we n) 128 :=
      fg_wo_sub fun M hM => fg_ba_gi ha h ((fg_al_upd hj (by omega) (Or.inl hf)).mp hM).1
    have h3 := fg_fo1_ge (g := fg_wo (upd fx j (nI 0)) va we n) ha128
    rw [fg_wo_al h1 ha] at h3
    omega
section
variable {n : Nat} {ft : Int32} {ar va we gi fx sc : Nat → Int32} {ta : Nat → Int64}
theorem fg_ba16 {a : Nat} (hn : n ≤ 7) (hW : fg_W we) (hV : fg_V n va ar) (hG : fg_G gi) (ha128 : a < 128) (ha : fg_al gi a = true) (hwa : fg_wo gi va we n a = fg_fo 1 (fg_wo gi va we n) 128)
    (hmin : ∀ m, m < a → ¬ (fg_al gi m = true ∧ fg_wo gi va we n m = fg_fo 1 (fg_wo gi va we n) 128)) (post : Int32 → SX → Prop)
    (h : ∀ k' fx' sc' ta', post (nI a) (nI n, k', ar, va, we, gi, fx', sc', ta')) :
    ∀ j (k : Int32) (fx sc : Nat → Int32) (ta : Nat → Int64), j ≤ 7 → fg_ba gi fx a j →
      wX_bestAssignment_16 post (lN (fg_fo 1 (fg_wo gi va we n) 128)) (j + 1) (nI (fg_hi a j)) (nI j + (-1)) (nI n) k ar va we gi fx sc ta := by
  intro j
  induction j with
  | zero =>
    intro k fx sc ta hj hI
    rw [fg_hi_0]
    exact br_t (by decide +kernel) (h k fx sc ta)
  | succ j ih =>
    intro k fx sc ta hj hI
    rw [pk_m1]
    have ec : (nI j).toNatClampNeg = j := nI_clamp (by omega)
    have hin : vp_in (nI j) 7 := vp_in_nI (by omega) (by omega)
    have hfin : ∀ (k2 : Int32) (fx2 sc2 : Nat → Int32) (ta2 : Nat → Int64), fg_ba gi fx2 a j →
        wX_bestAssignment_61 post (wX_bestAssignment_16 post (lN (fg_fo 1 (fg_wo gi va we n) 128)) (j + 1)) (lN (fg_fo 1 (fg_wo gi va we n) 128)) (nI (fg_hi a (j + 1))) (nI j) (nI n) k2 ar va we gi fx2 sc2 ta2 := by
      intro k2 fx2 sc2 ta2 hI2
      have ev : nI (fg_hi a (j + 1)) ||| (fx2 (nI j).toNatClampNeg <<< (nI j &&& 31)) = nI (fg_hi a j) := by
        rw [ec, hI2.2 j (by omega) (by omega), fg_hi_s j (by omega) a ha128]
      exact ⟨hin, nm_r ev (nm_e (ih k2 fx2 sc2 ta2 (by omega) hI2))⟩
    refine br_f (nI_pos (by omega)) ⟨hin, ?_⟩
    by_cases c : fx j < 0
    · have eu : upd fx (nI j).toNatClampNeg 0 = upd fx j (nI 0) := by rw [ec]; rfl
      have e4 : fg_fo 1 (fg_gw 1 (upd fx j (nI 0)) va we n) 128 = fg_fo 1 (fg_wo (upd fx j (nI 0)) va we n) 128 :=
        fg_fo_congr 1 fun M _ => fg_gw_wo (by decide) _ _ _ _ _
      refine br_f (by rw [ec]; exact Int32.not_le.mpr c) ⟨hin, nm_r eu ?_⟩
      refine fg_solve (md := 1) (by decide) hn hW hV (fg_G_upd (fg_ba_G hG hI) (by omega)) _ fun k' sc' ta' => ?_
      rw [e4]
      have b1 := fg_fo1_le (fg_wo_le (fx := upd fx j (nI 0)) (va := va) hn hW) 128
      have b2 := fg_fo1_le (fg_wo_le (fx := gi) (va := va) hn hW) 128
      by_cases c2 : fg_fo 1 (fg_wo (upd fx j (nI 0)) va we n) 128 = fg_fo 1 (fg_wo gi va we n) 128
      · have c3 := fg_ba_eq hG (by omega) ha128 ha hmin hI c c2
        exact br_t (by rw [c2]) (hfin k' _ sc' ta' (fg_ba_s hI (by rw [c3])))
      · have c3 := fg_ba_ne (by omega) ha128 ha hwa hI c c2
        have eu2 : upd (upd fx j (nI 0)) (nI j).toNatClampNeg 1 = upd fx j 1 := by rw [ec, fg_upd2]
        exact br_f (fun z => c2 ((pk_lEQ (by omega) (by omega)).mp z)) ⟨hin, nm_r eu2 (hfin k' _ sc' ta' (fg_ba_s hI (by rw [c3]; rfl)))⟩
    · refine br_t (by rw [ec]; exact Int32.not_lt.mp c) (hfin k fx sc ta ⟨fun v hv => hI.1 v (by omega), fun v hv hv7 => ?_⟩)
      by_cases e : v = j
      · subst e
        have e1 := hI.1 v (by omega)
        rcases fg_al_iff.mp ha v hv7 with z | z
        · rw [e1] at c; exact absurd z c
        · rw [e1]; exact z
      · exact hI.2 v (by omega) hv7
theorem fg_xbestA {a : Nat} (hn : n ≤ 7) (hW : fg_W we) (hV : fg_V n va ar) (hG : fg_G gi) (ha128 : a < 128) (ha : fg_al gi a = true) (hwa : fg_wo gi va we n a = fg_fo 1 (fg_wo gi va we n) 128)
    (hmin : ∀ m, m < a → ¬ (fg_al gi m = true ∧ fg_wo gi va we n m = fg_fo 1 (fg_wo gi va we n) 128)) (post : Int32 → SX → Prop)
    (h : ∀ k' fx' sc' ta', post (nI a) (nI n, k', ar, va, we, gi, fx', sc', ta')) :
    wpX_bestAssignment post (nI n, ft, ar, va, we, gi, fx, sc, ta) := by
  refine fg_fix _ fun fx' hfx => ?_
  refine fg_solve (md := 1) (by decide) hn hW hV (fg_G_congr hfx hG) _ fun k' sc' ta' => ⟨8, ?_⟩
  have e4 : fg_fo 1 (fg_gw 1 fx' va we n) 128 = fg_fo 1 (fg_wo gi va we n) 128 :=
    fg_fo_congr 1 fun M _ => by rw [fg_gw_wo (by decide), fg_wo_congr hfx]
  rw [e4]
  have h2 := fg_ba16 hn hW hV hG ha128 ha hwa hmin post h 7 k' fx' sc' ta' (by omega) ⟨hfx, fun v hv hv7 => by omega⟩
  rw [fg_hi_7 a ha128] at h2
  exact h2
end
end
section
/-! the calls that store: factor, weight, evidence, drop -/
def i_Rel (_ : Nat) (u : SX) (v : SY) : Prop :=
  ∃ (n : Nat) (ft : Int32) (ar va we gi fx sc : Nat → Int32) (ta : Nat → Int64), u = (nI n, ft, ar, va, we, gi, fx, sc, ta) ∧ v = (nI n, va, we, gi) ∧ n ≤ 7 ∧ fg_W we ∧ fg_V n va ar ∧ fg_G gi
theorem fg_el {P : SX → SY → Prop} {k : Nat} {u : SX} {v : SY} (h : ∀ (n : Nat) (ft : Int32) (ar va we gi fx sc : Nat → Int32) (ta : Nat → Int64), n ≤ 7 → fg_W we → fg_V n va ar → fg_G gi → P (nI n, ft, ar, va, we, gi, fx, sc, ta) (nI n, va, we, gi)) (I : i_Rel k u v) : P u v := by
  obtain ⟨n, ft, ar, va, we, gi, fx, sc, ta, rfl, rfl, hn, hW, hV, hG⟩ := I
  exact h n ft ar va we gi fx sc ta hn hW hV hG
theorem fg_R {k n : Nat} {ft : Int32} {ar va we gi fx sc : Nat → Int32} {ta : Nat → Int64} (hn : n ≤ 7) (hW : fg_W we) (hV : fg_V n va ar) (hG : fg_G gi) : i_Rel k (nI n, ft, ar, va, we, gi, fx, sc, ta) (nI n, va, we, gi) :=
  ⟨n, ft, ar, va, we, gi, fx, sc, ta, rfl, rfl, hn, hW, hV, hG⟩
theorem i_up {k : Nat} {u : SX} {v : SY} (h : i_Rel k u v) : i_Rel (k + 4) u v := h
/-- both sides end, with one answer, in related states -/
def fg_LS (k : Nat) (WX : (Int32 → SX → Prop) → Prop) (WY : (Int32 → SY → Prop) → Prop) : Prop :=
  ∃ r u v, i_Rel k u v ∧ (∀ post : Int32 → SX → Prop, post r u → WX post) ∧ (∀ post : Int32 → SY → Prop, post r v → WY post)
theorem fg_LS_vc {k : Nat} {WX : (Int32 → SX → Prop) → Prop} {WY : (Int32 → SY → Prop) → Prop} (h : fg_LS k WX WY) :
    WX (fun r u' => WY (fun r' v' => r' = r ∧ i_Rel k u' v')) := by
  obtain ⟨r, u, v, hR, hX, hY⟩ := h
  exact hX _ (hY _ ⟨rfl, hR⟩)
theorem fg_LS_w {k : Nat} {WX WX' : (Int32 → SX → Prop) → Prop} {WY WY' : (Int32 → SY → Prop) → Prop} (h : fg_LS k WX WY) (hx : ∀ post, WX post → WX' post) (hy : ∀ post, WY post → WY' post) : fg_LS k WX' WY' := by
  obtain ⟨r, u, v, hR, hX, hY⟩ := h
  exact ⟨r, u, v, hR, fun p hp => hx p (hX p hp), fun p hp => hy p (hY p hp)⟩
def fg_ones (we : Nat → Int32) (n i : Nat) : Nat → Int32 := fun u => if n * 8 ≤ u ∧ u < n * 8 + i then 1 else we u
theorem fg_ones_0 (we : Nat → Int32) (n : Nat) : fg_ones we n 0 = we := by
  funext u
  unfold fg_ones
  rw [if_neg (by omega)]
theorem fg_ones_s (we : Nat → Int32) (n i : Nat) : upd (fg_ones we n i) (n * 8 + i) 1 = fg_ones we n (i + 1) := by
  funext u
  by_cases e : u = n * 8 + i
  · rw [e, pk_us]
    unfold fg_ones
    rw [if_pos (by omega)]
  · rw [pk_un e]
    unfold fg_ones
    by_cases c : n * 8 ≤ u ∧ u < n * 8 + i
    · rw [if_pos c, if_pos (by omega)]
    · rw [if_neg c, if_neg (by omega)]
theorem fg_W_ones {we : Nat → Int32} (hW : fg_W we) (n i : Nat) : fg_W (fg_ones we n i) := by
  intro u
  unfold fg_ones
  split
  · exact ⟨1, by omega, rfl⟩
  · exact hW u
theorem fg_x151 {n : Nat} {ft : Int32} {ar va we gi fx sc : Nat → Int32} {ta : Nat → Int64} (hn : n < 7) (post : Int32 → SX → Prop)
    (h : post (nI n) (nI (n + 1), ft, ar, va, fg_ones we n 8, gi, fx, sc, ta)) :
    ∀ d i, i + d = 8 → wX_factor_151 post (nI n) (nI n) ft (d + 1) (nI i) ar va (fg_ones we n i) gi fx sc ta := by
  intro d
  induction d with
  | zero =>
    intro i hi
    have e : i = 8 := by omega
    subst e
    exact br_t (nI_le (a := 8) (by omega) (by omega)) (nm_r (nI_1 n) h)
  | succ d ih =>
    intro i hi
    have ei : (nI n * 8) + nI i = nI (n * 8 + i) := by rw [show (8 : Int32) = nI 8 from rfl, pk_mul, nI_add]
    have eu : upd (fg_ones we n i) ((nI n * 8) + nI i).toNatClampNeg 1 = fg_ones we n (i + 1) := by rw [ei, nI_clamp (by omega), fg_ones_s]
    exact br_f (nI_ge (b := 8) (by omega) (by omega)) ⟨by rw [ei]; exact vp_in_nI (by omega) (by omega), nm_r eu (nm_r (nI_1 i) (ih (i + 1) (by omega)))⟩
theorem fg_y126 {n : Nat} {va we gi : Nat → Int32} (hn : n < 7) (post : Int32 → SY → Prop)
    (h : post (nI n) (nI (n + 1), va, fg_ones we n 8, gi)) :
    ∀ d i, i + d = 8 → wY_factor_126 post (nI n) (d + 1) (nI i) va (fg_ones we n i) gi := by
  intro d
  induction d with
  | zero =>
    intro i hi
    have e : i = 8 := by omega
    subst e
    refine br_t (nI_le (a := 8) (by omega) (by omega)) (nm_r (nI_1 n) ?_)
    rw [nI_pred]
    exact h
  | succ d ih =>
    intro i hi
    have ei : (nI n * 8) + nI i = nI (n * 8 + i) := by rw [show (8 : Int32) = nI 8 from rfl, pk_mul, nI_add]
    have eu : upd (fg_ones we n i) ((nI n * 8) + nI i).toNatClampNeg 1 = fg_ones we n (i + 1) := by rw [ei, nI_clamp (by omega), fg_ones_s]
    exact br_f (nI_ge (b := 8) (by omega) (by omega)) ⟨by rw [ei]; exact vp_in_nI (by omega) (by omega), nm_r eu (nm_r (nI_1 i) (ih (i + 1) (by omega)))⟩
def fg_v3 (va : Nat → Int32) (n : Nat) (x y z : Int32) : Nat → Int32 := upd (upd (upd va (n * 3) x) (n * 3 + 1) y) (n * 3 + 2) z
theorem fg_v3_old {va : Nat → Int32} {n u : Nat} {x y z : Int32} (h : u < n * 3) : fg_v3 va n x y z u = va u := by
  unfold fg_v3
  rw [pk_un (by omega), pk_un (by omega), pk_un (by omega)]
theorem fg_v3_0 {va : Nat → Int32} {n : Nat} {x y z : Int32} : fg_v3 va n x y z (n * 3 + 0) = x := by
  unfold fg_v3
  rw [pk_un (by omega), pk_un (by omega)]
  exact pk_us
theorem fg_v3_1 {va : Nat → Int32} {n : Nat} {x y z : Int32} : fg_v3 va n x y z (n * 3 + 1) = y := by
  unfold fg_v3
  rw [pk_un (by omega), pk_us]
theorem fg_v3_2 {va : Nat → Int32} {n : Nat} {x y z : Int32} : fg_v3 va n x y z (n * 3 + 2) = z := by
  unfold fg_v3
  rw [pk_us]
theorem fg_V_new {n q : Nat} {va ar : Nat → Int32} {x y z : Int32} (hV : fg_V n va ar) (h : fg_V1 (fg_v3 va n x y z) n q) : fg_V (n + 1) (fg_v3 va n x y z) (upd ar n (nI q)) := by
  intro f hf
  by_cases e : f = n
  · rw [e, pk_us]
    exact ⟨q, rfl, h⟩
  · rw [pk_un e]
    obtain ⟨q', hq, h1, h2, h3, h4⟩ := hV f (by omega)
    refine ⟨q', hq, h1, h2, fun i hi => ?_, fun i hi hi3 => ?_⟩
    · rw [fg_v3_old (by omega)]; exact h3 i hi
    · rw [fg_v3_old (by omega)]; exact h4 i hi hi3
theorem fg_V1_1 {va : Nat → Int32} {n a : Nat} (ha : a < 7) : fg_V1 (fg_v3 va n (nI a) (-1) (-1)) n 1 := by
  refine ⟨by omega, by omega, fun i hi => ?_, fun i hi hi3 => ?_⟩
  · have e : i = 0 := by omega
    rw [e, fg_v3_0]; exact ⟨a, ha, rfl⟩
  · have e : i = 1 ∨ i = 2 := by omega
    rcases e with rfl | rfl
    · exact fg_v3_1
    · exact fg_v3_2
theorem fg_V1_2 {va : Nat → Int32} {n a b : Nat} (ha : a < 7) (hb : b < 7) : fg_V1 (fg_v3 va n (nI a) (nI b) (-1)) n 2 := by
  refine ⟨by omega, by omega, fun i hi => ?_, fun i hi hi3 => ?_⟩
  · have e : i = 0 ∨ i = 1 := by omega
    rcases e with rfl | rfl
    · rw [fg_v3_0]; exact ⟨a, ha, rfl⟩
    · rw [fg_v3_1]; exact ⟨b, hb, rfl⟩
  · have e : i = 2 := by omega
    rw [e]; exact fg_v3_2
theorem fg_V1_3 {va : Nat → Int32} {n a b c : Nat} (ha : a < 7) (hb : b < 7) (hc : c < 7) : fg_V1 (fg_v3 va n (nI a) (nI b) (nI c)) n 3 := by
  refine ⟨by omega, by omega, fun i hi => ?_, fun i hi hi3 => by omega⟩
  have e : i = 0 ∨ i = 1 ∨ i = 2 := by omega
  rcases e with rfl | rfl | rfl
  · rw [fg_v3_0]; exact ⟨a, ha, rfl⟩
  · rw [fg_v3_1]; exact ⟨b, hb, rfl⟩
  · rw [fg_v3_2]; exact ⟨c, hc, rfl⟩
section
variable {k n : Nat} {ft : Int32} {ar va we gi fx sc : Nat → Int32} {ta : Nat → Int64}
theorem fg_f70 {q : Nat} {x y z : Int32} (hn : n ≤ 7) (hW : fg_W we) (hV : fg_V n va ar) (hG : fg_G gi) (hV1 : fg_V1 (fg_v3 va n x y z) n q)
    (hq : (y < 0 ∧ q = 1) ∨ (¬ y < 0 ∧ z < 0 ∧ q = 2) ∨ (¬ y < 0 ∧ ¬ z < 0 ∧ q = 3)) :
    fg_LS k (fun post => wX_factor_70 post x y z (nI n) ft ar va we gi fx sc ta) (fun post => wY_factor_70 post x y z (nI n) va we gi) := by
  by_cases c : n = 7
  · subst c
    exact ⟨-4, _, _, fg_R hn hW hV hG, fun post hp => br_f (by decide +kernel) hp, fun post hp => br_t rfl hp⟩
  · have e0 : nI n * 3 = nI (n * 3) := by rw [show (3 : Int32) = nI 3 from rfl, pk_mul]
    have e1 : (nI n * 3) + 1 = nI (n * 3 + 1) := by rw [e0, nI_1]
    have e2 : (nI n * 3) + 2 = nI (n * 3 + 2) := by rw [e0, show (2 : Int32) = nI 2 from rfl, nI_add]
    have i0 : vp_in (nI n * 3) 21 := by rw [e0]; exact vp_in_nI (by omega) (by omega)
    have i1 : vp_in ((nI n * 3) + 1) 21 := by rw [e1]; exact vp_in_nI (by omega) (by omega)
    have i2 : vp_in ((nI n * 3) + 2) 21 := by rw [e2]; exact vp_in_nI (by omega) (by omega)
    have i3 : vp_in (nI n) 7 := vp_in_nI (by omega) (by omega)
    have u0 : upd va (nI n * 3).toNatClampNeg x = upd va (n * 3) x := by rw [e0, nI_clamp (by omega)]
    have u1 : upd (upd va (n * 3) x) ((nI n * 3) + 1).toNatClampNeg y = upd (upd va (n * 3) x) (n * 3 + 1) y := by rw [e1, nI_clamp (by omega)]
    have u2 : upd (upd (upd va (n * 3) x) (n * 3 + 1) y) ((nI n * 3) + 2).toNatClampNeg z = fg_v3 va n x y z := by rw [e2, nI_clamp (by omega)]; rfl
    have u3 : ∀ w : Int32, upd ar (nI n).toNatClampNeg w = upd ar n w := fun w => by rw [nI_clamp (by omega)]
    refine ⟨nI n, (nI (n + 1), ft, upd ar n (nI q), fg_v3 va n x y z, fg_ones we n 8, gi, fx, sc, ta), (nI (n + 1), fg_v3 va n x y z, fg_ones we n 8, gi), fg_R (by omega) (fg_W_ones hW n 8) (fg_V_new hV hV1) hG, fun post hp => ?_, fun post hp => ?_⟩
    · have h := fg_x151 (by omega) post hp 8 0 (by omega)
      rw [fg_ones_0] at h
      refine br_t (nI_lt (b := 7) (by omega) (by omega)) ⟨i0, nm_r u0 ⟨i1, nm_r u1 ⟨i2, nm_r u2 ?_⟩⟩⟩
      rcases hq with ⟨h1, rfl⟩ | ⟨h1, h2, rfl⟩ | ⟨h1, h2, rfl⟩
      · exact br_f (Int32.not_le.mpr h1) ⟨i3, nm_r (u3 1) ⟨9, h⟩⟩
      · exact br_t (Int32.not_lt.mp h1) (br_f (Int32.not_le.mpr h2) ⟨i3, nm_r (u3 2) ⟨9, h⟩⟩)
      · exact br_t (Int32.not_lt.mp h1) (br_t (Int32.not_lt.mp h2) ⟨i3, nm_r (u3 3) ⟨9, h⟩⟩)
    · have h := fg_y126 (by omega) post hp 8 0 (by omega)
      rw [fg_ones_0] at h
      exact br_f (fun z => c ((nI_eq (b := 7) (by omega) (by omega)).mp z)) ⟨i0, nm_r u0 ⟨i1, nm_r u1 ⟨i2, nm_r u2 ⟨9, h⟩⟩⟩⟩
theorem fg_cl4 (x : Int32) : x < -1 ∨ x = -1 ∨ (∃ b, b < 7 ∧ x = nI b) ∨ nI 7 ≤ x := by
  rcases pk_ix x (n := 7) (by decide) with h | h | h
  · by_cases c : x < -1
    · exact Or.inl c
    · refine Or.inr (Or.inl ?_)
      rw [Int32.lt_iff_toInt_lt] at h c
      rw [show (0 : Int32).toInt = 0 from by decide +kernel] at h
      rw [show (-1 : Int32).toInt = -1 from by decide +kernel] at c
      apply Int32.toInt_inj.mp
      rw [show (-1 : Int32).toInt = -1 from by decide +kernel]
      omega
  · exact Or.inr (Or.inr (Or.inr h))
  · exact Or.inr (Or.inr (Or.inl h))
theorem fg_fb : ∀ b, b < 7 → ¬ nI b < -1 ∧ ¬ 7 ≤ nI b ∧ ¬ 6 < nI b ∧ ¬ nI b = -1 ∧ 0 ≤ nI b ∧ nI b < 7 ∧ ¬ nI b < 0 := by decide +kernel
theorem fg_b7 {x : Int32} (h : nI 7 ≤ x) : ¬ x < -1 ∧ 6 < x ∧ ¬ x = -1 ∧ ¬ x < 7 ∧ ¬ x < 0 := by
  have h1 : (7 : Int) ≤ x.toInt := by
    rw [Int32.le_iff_toInt_le, show (nI 7).toInt = 7 from by decide +kernel] at h
    exact h
  refine ⟨?_, ?_, ?_, ?_, ?_⟩
  · rw [Int32.lt_iff_toInt_lt, show (-1 : Int32).toInt = -1 from by decide +kernel]; omega
  · rw [Int32.lt_iff_toInt_lt, show (6 : Int32).toInt = 6 from by decide +kernel]; omega
  · intro z; rw [z, show (-1 : Int32).toInt = -1 from by decide +kernel] at h1; omega
  · rw [Int32.lt_iff_toInt_lt, show (7 : Int32).toInt = 7 from by decide +kernel]; omega
  · rw [Int32.lt_iff_toInt_lt, show (0 : Int32).toInt = 0 from by decide +kernel]; omega
theorem fg_bm {x : Int32} (h : x < -1) : ¬ x = -1 := fun z => by rw [z] at h; exact absurd h (by decide)
theorem fg_factor (hn : n ≤ 7) (hW : fg_W we) (hV : fg_V n va ar) (hG : fg_G gi) (v1 v2 v3 : Int32) :
    fg_LS k (fun post => wpX_factor post (nI n, ft, ar, va, we, gi, fx, sc, ta) v1 v2 v3) (fun post => wpY_factor post (nI n, va, we, gi) v1 v2 v3) := by
  have hR : i_Rel k (nI n, ft, ar, va, we, gi, fx, sc, ta) (nI n, va, we, gi) := fg_R hn hW hV hG
  rcases fg_cls v1 with h1 | ⟨a, ha, rfl⟩
  · refine ⟨-1, _, _, hR, fun post hp => (by dsimp only [wpX_factor]; exact fg_xbad h1 _ (br_f (by decide) hp)), fun post hp => ?_⟩
    exact br_c (fun _ => (by dsimp only [wY_factor_10]; exact fg_ybad h1 _ (br_f (by decide) hp))) (fun _ => (by dsimp only [wY_factor_10]; exact fg_ybad h1 _ (br_f (by decide) hp)))
  · obtain ⟨a1, a2, a3, a4, a5, a6, a7⟩ := fg_fb a ha
    have a4' : ¬ -1 = nI a := fun z => a4 z.symm
    rcases fg_cl4 v2 with h2 | rfl | ⟨b, hb, rfl⟩ | h2
    · refine ⟨-1, _, _, hR, fun post hp => (by dsimp only [wpX_factor]; exact fg_xok ha _ (br_t rfl (br_t h2 hp))), fun post hp => ?_⟩
      exact br_f (fg_bm h2) ((by dsimp only [wY_factor_10]; exact fg_yok ha _ (br_t rfl (br_t h2 hp))))
    · refine fg_LS_w (fg_f70 (k := k) (ft := ft) (fx := fx) (sc := sc) (ta := ta) (q := 1) hn hW hV hG (fg_V1_1 ha) (Or.inl ⟨by decide, rfl⟩)) (fun post hp => ?_) (fun post hp => ?_)
      · exact (by dsimp only [wpX_factor]; exact fg_xok ha _ (br_t rfl (br_f (by decide) (br_f (by decide) (br_f a4' (br_f (by decide) (br_f (by decide) (br_t (by decide) (br_t (by decide) hp)))))))))
      · exact br_t rfl ((by dsimp only [wY_factor_10]; exact fg_yok ha _ (br_t rfl (br_f (by decide) (br_f (by decide) (br_f (by decide) (br_f (by decide) (br_f a4 (br_f a4 (br_t rfl hp))))))))))
    · obtain ⟨b1, b2, b3, b4, b5, b6, b7⟩ := fg_fb b hb
      by_cases e : b = a
      · subst e
        refine ⟨-1, _, _, hR, fun post hp => (by dsimp only [wpX_factor]; exact fg_xok ha _ (br_t rfl (br_f b1 (br_f b2 (br_t rfl hp))))), fun post hp => ?_⟩
        exact br_f b4 ((by dsimp only [wY_factor_10]; exact fg_yok ha _ (br_t rfl (br_f b1 (br_f b3 (br_c (fun _ => hp) (fun _ => br_c (fun _ => hp) (fun _ => br_t rfl hp))))))))
      · have e1 : ¬ nI b = nI a := fun z => e ((nI_eq (by omega) (by omega)).mp z)
        have e1' : ¬ nI a = nI b := fun z => e1 z.symm
        have hX : ∀ post : Int32 → SX → Prop, wX_factor_34 post (nI a) (nI b) v3 (nI n) ft ar va we gi fx sc ta → wpX_factor post (nI n, ft, ar, va, we, gi, fx, sc, ta) (nI a) (nI b) v3 :=
          fun post hp => (by dsimp only [wpX_factor]; exact fg_xok ha _ (br_t rfl (br_f b1 (br_f b2 (br_f e1 (br_t b5 hp))))))
        have hY : ∀ post : Int32 → SY → Prop, wY_factor_10 post (nI a) (nI b) v3 (nI n) va we gi → wpY_factor post (nI n, va, we, gi) (nI a) (nI b) v3 :=
          fun post hp => br_f b4 hp
        refine fg_LS_w (WX := fun post => wX_factor_34 post (nI a) (nI b) v3 (nI n) ft ar va we gi fx sc ta) (WY := fun post => wY_factor_10 post (nI a) (nI b) v3 (nI n) va we gi) ?_ hX hY
        rcases fg_cl4 v3 with h3 | rfl | ⟨c, hc, rfl⟩ | h3
        · exact ⟨-1, _, _, hR, fun post hp => br_t h3 hp, fun post hp => (by dsimp only [wY_factor_10]; exact fg_yok ha _ (br_t rfl (br_f b1 (br_f b3 (br_t h3 hp)))))⟩
        · refine fg_LS_w (fg_f70 (k := k) (ft := ft) (fx := fx) (sc := sc) (ta := ta) (q := 2) hn hW hV hG (fg_V1_2 ha hb) (Or.inr (Or.inl ⟨b7, by decide, rfl⟩))) (fun post hp => ?_) (fun post hp => ?_)
          · exact br_f (by decide) (br_t (by decide) (br_t (by decide) hp))
          · exact (by dsimp only [wY_factor_10]; exact fg_yok ha _ (br_t rfl (br_f b1 (br_f b3 (br_f (by decide) (br_f (by decide) (br_f e1' (br_f a4 (br_f b4 (br_f b4 hp))))))))))
        · obtain ⟨c1, c2, c3, c4, c5, c6, c7⟩ := fg_fb c hc
          by_cases ea : c = a
          · subst ea
            exact ⟨-1, _, _, hR, fun post hp => br_f c1 (br_t c6 (br_f c7 (br_t rfl hp))), fun post hp => (by dsimp only [wY_factor_10]; exact fg_yok ha _ (br_t rfl (br_f b1 (br_f b3 (br_f c1 (br_f c3 (br_f e1' (br_t rfl hp))))))))⟩
          · have e2 : ¬ nI c = nI a := fun z => ea ((nI_eq (by omega) (by omega)).mp z)
            have e2' : ¬ nI a = nI c := fun z => e2 z.symm
            by_cases eb : c = b
            · subst eb
              exact ⟨-1, _, _, hR, fun post hp => br_f c1 (br_t c6 (br_f c7 (br_f e2 (br_t rfl hp)))), fun post hp => (by dsimp only [wY_factor_10]; exact fg_yok ha _ (br_t rfl (br_f b1 (br_f b3 (br_f c1 (br_f c3 (br_f e1' (br_f e2' (br_f b4 (br_t rfl hp))))))))))⟩
            · have e3 : ¬ nI c = nI b := fun z => eb ((nI_eq (by omega) (by omega)).mp z)
              have e3' : ¬ nI b = nI c := fun z => e3 z.symm
              refine fg_LS_w (fg_f70 (k := k) (ft := ft) (fx := fx) (sc := sc) (ta := ta) (q := 3) hn hW hV hG (fg_V1_3 ha hb hc) (Or.inr (Or.inr ⟨b7, c7, rfl⟩))) (fun post hp => ?_) (fun post hp => ?_)
              · exact br_f c1 (br_t c6 (br_f c7 (br_f e2 (br_f e3 hp))))
              · exact (by dsimp only [wY_factor_10]; exact fg_yok ha _ (br_t rfl (br_f b1 (br_f b3 (br_f c1 (br_f c3 (br_f e1' (br_f e2' (br_f b4 (br_f e3' hp))))))))))
        · obtain ⟨d1, d2, d3, d4, d5⟩ := fg_b7 h3
          exact ⟨-1, _, _, hR, fun post hp => br_f d1 (br_f d4 hp), fun post hp => (by dsimp only [wY_factor_10]; exact fg_yok ha _ (br_t rfl (br_f b1 (br_f b3 (br_f d1 (br_t d2 hp))))))⟩
    · obtain ⟨d1, d2, d3, d4, d5⟩ := fg_b7 h2
      exact ⟨-1, _, _, hR, fun post hp => (by dsimp only [wpX_factor]; exact fg_xok ha _ (br_t rfl (br_f d1 (br_t h2 hp)))), fun post hp => br_f d3 ((by dsimp only [wY_factor_10]; exact fg_yok ha _ (br_t rfl (br_f d1 (br_t d2 hp)))))⟩
theorem fg_ways {f q : Nat} {p1 p2 : Int32} (hn : n ≤ 7) (hf : f < n) (hV : fg_V1 va f q) (post : Int32 → SY → Prop)
    (h : wY_weight_51 post (nI f) p1 p2 (nI (2 ^ q)) (nI n) va we gi) : wpY_weight post (nI n, va, we, gi) (nI f) p1 p2 := by
  have e0 : nI f * 3 = nI (f * 3) := by rw [show (3 : Int32) = nI 3 from rfl, pk_mul]
  have e1 : (nI f * 3) + 1 = nI (f * 3 + 1) := by rw [e0, nI_1]
  have e2 : (nI f * 3) + 2 = nI (f * 3 + 2) := by rw [e0, show (2 : Int32) = nI 2 from rfl, nI_add]
  have i1 : vp_in ((nI f * 3) + 1) 21 := by rw [e1]; exact vp_in_nI (by omega) (by omega)
  have i2 : vp_in ((nI f * 3) + 2) 21 := by rw [e2]; exact vp_in_nI (by omega) (by omega)
  have c1 : ((nI f * 3) + 1).toNatClampNeg = f * 3 + 1 := by rw [e1, nI_clamp (by omega)]
  have c2 : ((nI f * 3) + 2).toNatClampNeg = f * 3 + 2 := by rw [e2, nI_clamp (by omega)]
  obtain ⟨h1, h3, hp, hm⟩ := hV
  refine br_f (nI_pos (by omega)) (br_t (nI_lt hf (by omega)) ⟨i1, ?_⟩)
  have hq : q = 1 ∨ q = 2 ∨ q = 3 := by omega
  rcases hq with rfl | rfl | rfl
  · exact br_f (by rw [c1, hm 1 (by omega) (by omega)]; decide) h
  · obtain ⟨b, hb, eb⟩ := hp 1 (by omega)
    exact br_t (by rw [c1, eb]; exact nI_pos' (by omega)) ⟨i2, br_f (by rw [c2, hm 2 (by omega) (by omega)]; decide) h⟩
  · obtain ⟨b, hb, eb⟩ := hp 1 (by omega)
    obtain ⟨c, hc, ec⟩ := hp 2 (by omega)
    exact br_t (by rw [c1, eb]; exact nI_pos' (by omega)) ⟨i2, br_t (by rw [c2, ec]; exact nI_pos' (by omega)) h⟩
theorem fg_weight (hn : n ≤ 7) (hW : fg_W we) (hV : fg_V n va ar) (hG : fg_G gi) (v1 v2 v3 : Int32) :
    fg_LS k (fun post => wpX_weight post (nI n, ft, ar, va, we, gi, fx, sc, ta) v1 v2 v3) (fun post => wpY_weight post (nI n, va, we, gi) v1 v2 v3) := by
  have hR : i_Rel k (nI n, ft, ar, va, we, gi, fx, sc, ta) (nI n, va, we, gi) := fg_R hn hW hV hG
  rcases pk_ix v1 (n := n) (by omega) with h1 | h1 | ⟨f, hf, rfl⟩
  · exact ⟨-2, _, _, hR, fun post hp => br_t h1 hp, fun post hp => br_t h1 hp⟩
  · exact ⟨-2, _, _, hR, fun post hp => br_c (fun _ => hp) (fun _ => br_f (Int32.not_lt.mpr h1) hp), fun post hp => br_c (fun _ => hp) (fun _ => br_f (Int32.not_lt.mpr h1) hp)⟩
  · obtain ⟨q, hq, hV1⟩ := hV f hf
    have hq3 : q ≤ 3 := hV1.2.1
    have hp8 : 2 ^ q ≤ 2 ^ 3 := Nat.pow_le_pow_right (by decide) hq3
    have f0 : ¬ nI f < 0 := nI_pos (by omega)
    have f1 : nI f < nI n := nI_lt hf (by omega)
    have ec : (nI f).toNatClampNeg = f := nI_clamp (by omega)
    have ew : (1 : Int32) <<< ((ar (nI f).toNatClampNeg) &&& 31) = nI (2 ^ q) := by rw [ec, hq, fg_sh1 q (by omega)]
    have i0 : vp_in (nI f) 7 := vp_in_nI (by omega) (by omega)
    rcases pk_ix v2 (n := 2 ^ q) (by omega) with h2 | h2 | ⟨j, hj, rfl⟩
    · exact ⟨-5, _, _, hR, fun post hp => br_f f0 (br_t f1 (br_t h2 hp)), fun post hp => fg_ways hn hf hV1 post (br_t h2 hp)⟩
    · refine ⟨-5, _, _, hR, fun post hp => br_f f0 (br_t f1 (br_c (fun _ => hp) (fun _ => ⟨i0, br_f (by rw [ew]; exact Int32.not_lt.mpr h2) hp⟩))), fun post hp => fg_ways hn hf hV1 post (br_c (fun _ => hp) (fun _ => br_f (Int32.not_lt.mpr h2) hp))⟩
    · have j0 : ¬ nI j < 0 := nI_pos (by omega)
      have j1 : nI j < nI (2 ^ q) := nI_lt hj (by omega)
      have ei : (nI f * 8) + nI j = nI (f * 8 + j) := by rw [show (8 : Int32) = nI 8 from rfl, pk_mul, nI_add]
      have i1 : vp_in ((nI f * 8) + nI j) 56 := by rw [ei]; exact vp_in_nI (by omega) (by omega)
      have cl : ((nI f * 8) + nI j).toNatClampNeg = f * 8 + j := by rw [ei, nI_clamp (by omega)]
      rcases pk_ix v3 (n := 10) (by decide) with h3 | h3 | ⟨w, hw, rfl⟩
      · exact ⟨-3, _, _, hR, fun post hp => br_f f0 (br_t f1 (br_f j0 ⟨i0, br_t (by rw [ew]; exact j1) (br_t h3 hp)⟩)), fun post hp => fg_ways hn hf hV1 post (br_f j0 (br_t j1 (br_t h3 hp)))⟩
      · have h9 : ¬ v3 ≤ 9 := by
          rw [Int32.le_iff_toInt_le, show (nI 10).toInt = 10 from by decide +kernel] at h3
          rw [Int32.le_iff_toInt_le, show (9 : Int32).toInt = 9 from by decide +kernel]
          omega
        exact ⟨-3, _, _, hR, fun post hp => br_f f0 (br_t f1 (br_f j0 ⟨i0, br_t (by rw [ew]; exact j1) (br_c (fun _ => hp) (fun _ => br_f h9 hp))⟩)), fun post hp => fg_ways hn hf hV1 post (br_f j0 (br_t j1 (br_c (fun _ => hp) (fun _ => br_f h9 hp))))⟩
      · have w0 : ¬ nI w < 0 := nI_pos (by omega)
        have w9 : nI w ≤ 9 := nI_le (b := 9) (by omega) (by omega)
        have hW2 : fg_W (upd we (f * 8 + j) (nI w)) := by
          intro u
          by_cases e : u = f * 8 + j
          · rw [e, pk_us]; exact ⟨w, by omega, rfl⟩
          · rw [pk_un e]; exact hW u
        have ev : we ((nI f * 8) + nI j).toNatClampNeg = we (f * 8 + j) := by rw [cl]
        have eu : upd we ((nI f * 8) + nI j).toNatClampNeg (nI w) = upd we (f * 8 + j) (nI w) := by rw [cl]
        refine ⟨we (f * 8 + j), (nI n, ft, ar, va, upd we (f * 8 + j) (nI w), gi, fx, sc, ta), (nI n, va, upd we (f * 8 + j) (nI w), gi), fg_R hn hW2 hV hG, fun post hp => ?_, fun post hp => ?_⟩
        · exact br_f f0 (br_t f1 (br_f j0 ⟨i0, br_t (by rw [ew]; exact j1) (br_f w0 (br_t w9 ⟨i1, nm_r ev ⟨i1, nm_r eu hp⟩⟩))⟩))
        · exact fg_ways hn hf hV1 post (br_f j0 (br_t j1 (br_f w0 (br_t w9 ⟨i1, nm_r ev ⟨i1, nm_r eu hp⟩⟩))))
theorem fg_m101 {x : Int32} (h1 : ¬ x < -1) (h2 : x ≤ 1) : x = -1 ∨ x = 0 ∨ x = 1 := by
  rw [Int32.lt_iff_toInt_lt, show (-1 : Int32).toInt = -1 from by decide +kernel] at h1
  rw [Int32.le_iff_toInt_le, show (1 : Int32).toInt = 1 from by decide +kernel] at h2
  have h : x.toInt = -1 ∨ x.toInt = 0 ∨ x.toInt = 1 := by omega
  rcases h with h | h | h
  · exact Or.inl (Int32.toInt_inj.mp (by rw [h]; decide +kernel))
  · exact Or.inr (Or.inl (Int32.toInt_inj.mp (by rw [h]; decide +kernel)))
  · exact Or.inr (Or.inr (Int32.toInt_inj.mp (by rw [h]; decide +kernel)))
theorem fg_evidence (hn : n ≤ 7) (hW : fg_W we) (hV : fg_V n va ar) (hG : fg_G gi) (v1 v2 : Int32) :
    fg_LS k (fun post => wpX_evidence post (nI n, ft, ar, va, we, gi, fx, sc, ta) v1 v2) (fun post => wpY_evidence post (nI n, va, we, gi) v1 v2) := by
  have hR : i_Rel k (nI n, ft, ar, va, we, gi, fx, sc, ta) (nI n, va, we, gi) := fg_R hn hW hV hG
  rcases fg_cls v1 with h1 | ⟨a, ha, rfl⟩
  · exact ⟨-1, _, _, hR, fun post hp => (by dsimp only [wpX_evidence]; exact fg_xbad h1 _ (br_f (by decide) hp)), fun post hp => (by dsimp only [wpY_evidence]; exact fg_ybad h1 _ (br_f (by decide) hp))⟩
  · by_cases h2 : v2 < -1
    · exact ⟨-5, _, _, hR, fun post hp => (by dsimp only [wpX_evidence]; exact fg_xok ha _ (br_t rfl (br_t h2 hp))), fun post hp => (by dsimp only [wpY_evidence]; exact fg_yok ha _ (br_t rfl (br_t h2 hp)))⟩
    · by_cases h3 : v2 ≤ 1
      · have i0 : vp_in (nI a) 7 := vp_in_nI ha (by omega)
        have ec : (nI a).toNatClampNeg = a := nI_clamp (by omega)
        have ev : gi (nI a).toNatClampNeg = gi a := by rw [ec]
        have eu : upd gi (nI a).toNatClampNeg v2 = upd gi a v2 := by rw [ec]
        have hG2 : fg_G (upd gi a v2) := by
          intro v hv
          by_cases e : v = a
          · rw [e, pk_us]; exact fg_m101 h2 h3
          · rw [pk_un e]; exact hG v hv
        refine ⟨gi a, (nI n, ft, ar, va, we, upd gi a v2, fx, sc, ta), (nI n, va, we, upd gi a v2), fg_R hn hW hV hG2, fun post hp => ?_, fun post hp => ?_⟩
        · exact (by dsimp only [wpX_evidence]; exact fg_xok ha _ (br_t rfl (br_f h2 (br_t h3 ⟨i0, nm_r ev ⟨i0, nm_r eu hp⟩⟩))))
        · exact (by dsimp only [wpY_evidence]; exact fg_yok ha _ (br_t rfl (br_f h2 (br_t h3 ⟨i0, nm_r ev ⟨i0, nm_r eu hp⟩⟩))))
      · exact ⟨-5, _, _, hR, fun post hp => (by dsimp only [wpX_evidence]; exact fg_xok ha _ (br_t rfl (br_f h2 (br_f h3 hp)))), fun post hp => (by dsimp only [wpY_evidence]; exact fg_yok ha _ (br_t rfl (br_f h2 (br_f h3 hp))))⟩
theorem fg_drop (hn : n ≤ 7) (hW : fg_W we) (hV : fg_V n va ar) (hG : fg_G gi) :
    fg_LS k (fun post => wpX_drop post (nI n, ft, ar, va, we, gi, fx, sc, ta)) (fun post => wpY_drop post (nI n, va, we, gi)) := by
  cases n with
  | zero => exact ⟨-2, _, _, fg_R hn hW hV hG, fun post hp => br_t rfl hp, fun post hp => br_t rfl hp⟩
  | succ n =>
    have h0 : ¬ nI (n + 1) = 0 := nI_ne0 (by omega) (by omega)
    refine ⟨nI n, (nI n, ft, ar, va, we, gi, fx, sc, ta), (nI n, va, we, gi), fg_R (by omega) hW (fun f hf => hV f (by omega)) hG, fun post hp => ?_, fun post hp => ?_⟩
    · exact br_f h0 (nm_r (nI_pred n) hp)
    · exact br_f h0 (nm_r (nI_pred n) hp)
end
end
section
/-! what is owed -/
def fg_g0 (t : Nat) : Nat → Int32 := fun v => if v < t then -1 else 0
theorem fg_g0_s (t : Nat) : upd (fg_g0 t) t (-1) = fg_g0 (t + 1) := by
  funext u
  by_cases e : u = t
  · rw [e, pk_us]
    unfold fg_g0
    rw [if_pos (by omega)]
  · rw [pk_un e]
    unfold fg_g0
    by_cases c : u < t
    · rw [if_pos c, if_pos (by omega)]
    · rw [if_neg c, if_neg (by omega)]
theorem fg_g0_0 : fg_g0 0 = fun _ => 0 := by
  funext u
  unfold fg_g0
  rw [if_neg (by omega)]
theorem fg_xinit {ar va we fx sc : Nat → Int32} {ta : Nat → Int64} (post : SX → Prop) (h : post (0, 0, ar, va, we, fg_g0 7, fx, sc, ta)) :
    ∀ d t, t + d = 7 → wX_init_63 post 0 0 (d + 1) (nI t) ar va we (fg_g0 t) fx sc ta := by
  intro d
  induction d with
  | zero =>
    intro t ht
    have e : t = 7 := by omega
    subst e
    exact br_t (nI_le (a := 7) (by omega) (by omega)) h
  | succ d ih =>
    intro t ht
    have eu : upd (fg_g0 t) (nI t).toNatClampNeg (-1) = fg_g0 (t + 1) := by rw [nI_clamp (by omega), fg_g0_s]
    exact br_f (nI_ge (b := 7) (by omega) (by omega)) ⟨vp_in_nI (by omega) (by omega), nm_r eu (nm_r (nI_1 t) (ih (t + 1) (by omega)))⟩
theorem fg_yinit {va we : Nat → Int32} (post : SY → Prop) (h : post (0, va, we, fg_g0 7)) :
    ∀ d t, t + d = 7 → wY_init_30 post 0 (d + 1) (nI t) va we (fg_g0 t) := by
  intro d
  induction d with
  | zero =>
    intro t ht
    have e : t = 7 := by omega
    subst e
    exact br_t (nI_le (a := 7) (by omega) (by omega)) h
  | succ d ih =>
    intro t ht
    have eu : upd (fg_g0 t) (nI t).toNatClampNeg (-1) = fg_g0 (t + 1) := by rw [nI_clamp (by omega), fg_g0_s]
    exact br_f (nI_ge (b := 7) (by omega) (by omega)) ⟨vp_in_nI (by omega) (by omega), nm_r eu (nm_r (nI_1 t) (ih (t + 1) (by omega)))⟩
theorem fg_R0 : i_Rel 0 (0, 0, (fun _ => 0), (fun _ => 0), (fun _ => 0), fg_g0 7, (fun _ => 0), (fun _ => 0), (fun _ => 0)) (0, (fun _ => 0), (fun _ => 0), fg_g0 7) := by
  refine fg_R (n := 0) (by omega) (fun i => ⟨0, by omega, rfl⟩) (fun f hf => by omega) (fun v hv => Or.inl ?_)
  unfold fg_g0
  rw [if_pos hv]
theorem i_vc0 : wpX_init (fun u => wpY_init (fun v => i_Rel 0 u v)) := by
  refine ⟨8, ?_⟩
  have h := fg_xinit (ar := fun _ => 0) (va := fun _ => 0) (we := fun _ => 0) (fx := fun _ => 0) (sc := fun _ => 0) (ta := fun _ => 0) (fun u => wpY_init (fun v => i_Rel 0 u v)) ?_ 7 0 (by omega)
  · rw [fg_g0_0] at h
    exact h
  · refine ⟨8, ?_⟩
    have h := fg_yinit (va := fun _ => 0) (we := fun _ => 0) _ fg_R0 7 0 (by omega)
    rw [fg_g0_0] at h
    exact h
theorem i_vc_factor {k : Nat} {u : SX} {v : SY} (I : i_Rel k u v) (hk : k + 4 ≤ 2048) (v1 : Int32) (v2 : Int32) (v3 : Int32) : wpX_factor (fun r u' => wpY_factor (fun r' v' => r' = r ∧ i_Rel (k + 4) u' v') v v1 v2 v3) u v1 v2 v3 := by
  refine fg_el (P := fun u v => wpX_factor (fun r u' => wpY_factor (fun r' v' => r' = r ∧ i_Rel (k + 4) u' v') v v1 v2 v3) u v1 v2 v3) ?_ I
  intro n ft ar va we gi fx sc ta hn hW hV hG
  exact fg_LS_vc (fg_factor hn hW hV hG v1 v2 v3)
theorem i_vc_weight {k : Nat} {u : SX} {v : SY} (I : i_Rel k u v) (hk : k + 4 ≤ 2048) (v1 : Int32) (v2 : Int32) (v3 : Int32) : wpX_weight (fun r u' => wpY_weight (fun r' v' => r' = r ∧ i_Rel (k + 4) u' v') v v1 v2 v3) u v1 v2 v3 := by
  refine fg_el (P := fun u v => wpX_weight (fun r u' => wpY_weight (fun r' v' => r' = r ∧ i_Rel (k + 4) u' v') v v1 v2 v3) u v1 v2 v3) ?_ I
  intro n ft ar va we gi fx sc ta hn hW hV hG
  exact fg_LS_vc (fg_weight hn hW hV hG v1 v2 v3)
theorem i_vc_evidence {k : Nat} {u : SX} {v : SY} (I : i_Rel k u v) (hk : k + 4 ≤ 2048) (v1 : Int32) (v2 : Int32) : wpX_evidence (fun r u' => wpY_evidence (fun r' v' => r' = r ∧ i_Rel (k + 4) u' v') v v1 v2) u v1 v2 := by
  refine fg_el (P := fun u v => wpX_evidence (fun r u' => wpY_evidence (fun r' v' => r' = r ∧ i_Rel (k + 4) u' v') v v1 v2) u v1 v2) ?_ I
  intro n ft ar va we gi fx sc ta hn hW hV hG
  exact fg_LS_vc (fg_evidence hn hW hV hG v1 v2)
theorem i_vc_drop {k : Nat} {u : SX} {v : SY} (I : i_Rel k u v) (hk : k + 4 ≤ 2048) : wpX_drop (fun r u' => wpY_drop (fun r' v' => r' = r ∧ i_Rel (k + 4) u' v') v) u := by
  refine fg_el (P := fun u v => wpX_drop (fun r u' => wpY_drop (fun r' v' => r' = r ∧ i_Rel (k + 4) u' v') v) u) ?_ I
  intro n ft ar va we gi fx sc ta hn hW hV hG
  exact fg_LS_vc (fg_drop hn hW hV hG)
theorem i_vc_total {k : Nat} {u : SX} {v : SY} (I : i_Rel k u v) (hk : k + 4 ≤ 2048) : wpX_total (fun r u' => wpY_total (fun r' => r' = r ∧ i_Rel (k + 4) u' v) v) u := by
  refine fg_el (P := fun u v => wpX_total (fun r u' => wpY_total (fun r' => r' = r ∧ i_Rel (k + 4) u' v) v) u) ?_ I
  intro n ft ar va we gi fx sc ta hn hW hV hG
  dsimp only [wpX_total]
  refine fg_fix _ fun fx' hfx => ?_
  refine fg_solve (md := 0) (by decide) hn hW hV (fg_G_congr hfx hG) _ fun k' sc' ta' => ?_
  refine fg_ytotal hn hW (fg_V_Y hV) _ ⟨congrArg lN (fg_fo_congr 0 fun M _ => ?_), fg_R hn hW hV hG⟩
  rw [fg_gw_wo (by decide), fg_wo_congr hfx]
theorem fg_share_eq {fx gi : Nat → Int32} (hfx : ∀ v, v < 7 → fx v = gi v) (va we : Nat → Int32) (n a : Nat) :
    fg_fo 0 (fg_gb gi va we n a a) 128 = fg_fo 0 (fg_gs fx va we n a 1) 128 := by
  refine fg_fo_congr 0 fun M _ => ?_
  unfold fg_gb fg_gs
  rw [fg_wo_congr hfx]
  by_cases c : fg_bn M a = 1
  · rw [if_pos ⟨c, c⟩, if_pos c]
  · rw [if_neg (fun z => c z.1), if_neg c]
theorem fg_both_eq {fx gi : Nat → Int32} (hfx : ∀ v, v < 7 → fx v = gi v) (va we : Nat → Int32) (n a b : Nat) :
    fg_fo 0 (fg_gb gi va we n a b) 128 = fg_fo 0 (fg_g2 fx va we n a 1 b 1) 128 := by
  refine fg_fo_congr 0 fun M _ => ?_
  unfold fg_gb fg_g2 fg_gs
  rw [fg_wo_congr hfx]
  by_cases c : fg_bn M a = 1
  · by_cases c2 : fg_bn M b = 1
    · rw [if_pos ⟨c, c2⟩, if_pos c2, if_pos c]
    · rw [if_neg (fun z => c2 z.2), if_neg c2]
  · rw [if_neg (fun z => c z.1), if_neg c]
    split <;> rfl
theorem fg_fo0_add (g h : Nat → Nat) (n : Nat) : fg_fo 0 (fun M => g M + h M) n = fg_fo 0 g n + fg_fo 0 h n := by
  induction n with
  | zero => rfl
  | succ n ih =>
    rw [fg_fo_s, fg_fo_s, fg_fo_s, fg_op_add, fg_op_add, fg_op_add, ih]
    show _ + (g n + h n) = _
    omega
theorem fg_alike_eq {fx gi : Nat → Int32} (hfx : ∀ v, v < 7 → fx v = gi v) (va we : Nat → Int32) (n a b : Nat) :
    fg_fo 0 (fg_ge gi va we n a b) 128 = fg_fo 0 (fg_g2 fx va we n a 0 b 0) 128 + fg_fo 0 (fg_g2 fx va we n a 1 b 1) 128 := by
  rw [← fg_fo0_add]
  refine fg_fo_congr 0 fun M _ => ?_
  show fg_ge gi va we n a b M = fg_g2 fx va we n a 0 b 0 M + fg_g2 fx va we n a 1 b 1 M
  unfold fg_ge fg_g2 fg_gs
  rw [fg_wo_congr hfx]
  unfold fg_bn
  cases M.testBit a <;> cases M.testBit b <;> simp
theorem i_vc_share {k : Nat} {u : SX} {v : SY} (I : i_Rel k u v) (hk : k + 4 ≤ 2048) (v1 : Int32) : wpX_share (fun r u' => wpY_share (fun r' => r' = r ∧ i_Rel (k + 4) u' v) v v1) u v1 := by
  refine fg_el (P := fun u v => wpX_share (fun r u' => wpY_share (fun r' => r' = r ∧ i_Rel (k + 4) u' v) v v1) u v1) ?_ I
  intro n ft ar va we gi fx sc ta hn hW hV hG
  dsimp only [wpX_share]
  rcases fg_cls v1 with h1 | ⟨a, ha, rfl⟩
  · exact fg_xbad h1 _ (br_f (by decide) (by dsimp only [wpY_share]; exact fg_ybad h1 _ (br_f (by decide) ⟨rfl, fg_R hn hW hV hG⟩)))
  · refine fg_xok ha _ (br_t rfl (fg_fix _ fun fx' hfx => ?_))
    refine fg_sumWith (x := 1) ha (by omega) hn hW hV (fg_G_congr hfx hG) _ fun k' sc' ta' => ?_
    exact fg_yshare ha hn hW (fg_V_Y hV) _ ⟨congrArg lN (fg_share_eq hfx va we n a), fg_R hn hW hV hG⟩
theorem i_vc_alike {k : Nat} {u : SX} {v : SY} (I : i_Rel k u v) (hk : k + 4 ≤ 2048) (v1 : Int32) (v2 : Int32) : wpX_alike (fun r u' => wpY_alike (fun r' => r' = r ∧ i_Rel (k + 4) u' v) v v1 v2) u v1 v2 := by
  refine fg_el (P := fun u v => wpX_alike (fun r u' => wpY_alike (fun r' => r' = r ∧ i_Rel (k + 4) u' v) v v1 v2) u v1 v2) ?_ I
  intro n ft ar va we gi fx sc ta hn hW hV hG
  dsimp only [wpX_alike]
  rcases fg_cls v1 with h1 | ⟨a, ha, rfl⟩
  · exact fg_xbad h1 _ (br_f (by decide) (fg_yalikeB (Or.inl h1) _ ⟨rfl, fg_R hn hW hV hG⟩))
  · rcases fg_cls v2 with h2 | ⟨b, hb, rfl⟩
    · exact fg_xok ha _ (br_t rfl (fg_xbad h2 _ (br_f (by decide) (fg_yalikeB (Or.inr h2) _ ⟨rfl, fg_R hn hW hV hG⟩))))
    · refine fg_xok ha _ (br_t rfl (fg_xok hb _ (br_t rfl (fg_fix _ fun fx' hfx => ?_))))
      refine fg_sumWithBoth (x := 0) (y := 0) ha (by omega) hb (by omega) hn hW hV (fg_G_congr hfx hG) _ fun k' sc' ta' => ?_
      refine fg_sumWithBoth (x := 1) (y := 1) ha (by omega) hb (by omega) hn hW hV (fg_G_congr hfx hG) _ fun k2 sc2 ta2 => ?_
      refine fg_yalike ha hb hn hW (fg_V_Y hV) _ ⟨?_, fg_R hn hW hV hG⟩
      rw [lN_add, fg_alike_eq hfx]
theorem i_vc_best {k : Nat} {u : SX} {v : SY} (I : i_Rel k u v) (hk : k + 4 ≤ 2048) : wpX_best (fun r u' => wpY_best (fun r' => r' = r ∧ i_Rel (k + 4) u' v) v) u := by
  refine fg_el (P := fun u v => wpX_best (fun r u' => wpY_best (fun r' => r' = r ∧ i_Rel (k + 4) u' v) v) u) ?_ I
  intro n ft ar va we gi fx sc ta hn hW hV hG
  dsimp only [wpX_best]
  refine fg_fix _ fun fx' hfx => ?_
  refine fg_solve (md := 1) (by decide) hn hW hV (fg_G_congr hfx hG) _ fun k' sc' ta' => ?_
  refine fg_ybest hn hW (fg_V_Y hV) _ ⟨congrArg lN (fg_fo_congr 1 fun M _ => ?_), fg_R hn hW hV hG⟩
  rw [fg_gw_wo (by decide), fg_wo_congr hfx]
theorem i_vc_bestAssignment {k : Nat} {u : SX} {v : SY} (I : i_Rel k u v) (hk : k + 4 ≤ 2048) : wpX_bestAssignment (fun r u' => wpY_bestAssignment (fun r' => r' = r ∧ i_Rel (k + 4) u' v) v) u := by
  refine fg_el (P := fun u v => wpX_bestAssignment (fun r u' => wpY_bestAssignment (fun r' => r' = r ∧ i_Rel (k + 4) u' v) v) u) ?_ I
  intro n ft ar va we gi fx sc ta hn hW hV hG
  obtain ⟨M, hM, h1, h2⟩ := fg_att (va := va) (we := we) hG n
  obtain ⟨a, ⟨ha1, ha2⟩, hmin⟩ := pk_least (fun m => fg_al gi m = true ∧ fg_wo gi va we n m = fg_fo 1 (fg_wo gi va we n) 128) ⟨M, h1, h2⟩
  have ha : a < 128 := by
    refine Nat.lt_of_not_le fun z => ?_
    exact hmin M (by omega) ⟨h1, h2⟩
  refine fg_xbestA hn hW hV hG ha ha1 ha2 hmin _ fun k' fx' sc' ta' => ?_
  exact fg_ybestA hn hW (fg_V_Y hV) ha ha1 ha2 hmin _ ⟨rfl, fg_R hn hW hV hG⟩
theorem i_vc_possible {k : Nat} {u : SX} {v : SY} (I : i_Rel k u v) (hk : k + 4 ≤ 2048) : wpX_possible (fun r u' => wpY_possible (fun r' => r' = r ∧ i_Rel (k + 4) u' v) v) u := by
  refine fg_el (P := fun u v => wpX_possible (fun r u' => wpY_possible (fun r' => r' = r ∧ i_Rel (k + 4) u' v) v) u) ?_ I
  intro n ft ar va we gi fx sc ta hn hW hV hG
  dsimp only [wpX_possible]
  refine fg_fix _ fun fx' hfx => ?_
  refine fg_solve (md := 2) (by decide) hn hW hV (fg_G_congr hfx hG) _ fun k' sc' ta' => ?_
  refine fg_ypossible hn hW (fg_V_Y hV) _ ⟨?_, fg_R hn hW hV hG⟩
  rw [lN_i]
  show nI (fg_fo 0 (fg_gp gi va we n) 128) = nI (fg_fo 2 (fg_gw 2 fx' va we n) 128)
  refine congrArg nI ?_
  rw [show fg_fo 2 (fg_gw 2 fx' va we n) 128 = fg_fo 2 (fg_gp gi va we n) 128 from fg_fo_congr 2 fun M _ => by
    rw [fg_gw_gp]
    unfold fg_gp
    rw [fg_wo_congr hfx]]
  have e : ∀ m, fg_fo 0 (fg_gp gi va we n) m = fg_fo 2 (fg_gp gi va we n) m := by
    intro m
    induction m with
    | zero => rfl
    | succ m ih =>
      rw [fg_fo_s, fg_fo_s, ih]
      rfl
  exact e 128
theorem i_vc_independent {k : Nat} {u : SX} {v : SY} (I : i_Rel k u v) (hk : k + 4 ≤ 2048) (v1 : Int32) (v2 : Int32) : wpX_independent (fun r u' => wpY_independent (fun r' => r' = r ∧ i_Rel (k + 4) u' v) v v1 v2) u v1 v2 := by
  refine fg_el (P := fun u v => wpX_independent (fun r u' => wpY_independent (fun r' => r' = r ∧ i_Rel (k + 4) u' v) v v1 v2) u v1 v2) ?_ I
  intro n ft ar va we gi fx sc ta hn hW hV hG
  dsimp only [wpX_independent]
  rcases fg_cls v1 with h1 | ⟨a, ha, rfl⟩
  · exact fg_xbad h1 _ (br_f (by decide) (by dsimp only [wpY_independent]; exact fg_ybad h1 _ (br_f (by decide) ⟨rfl, fg_R hn hW hV hG⟩)))
  · rcases fg_cls v2 with h2 | ⟨b, hb, rfl⟩
    · exact fg_xok ha _ (br_t rfl (fg_xbad h2 _ (br_f (by decide) (by dsimp only [wpY_independent]; exact fg_yok ha _ (br_t rfl (fg_ybad h2 _ (br_f (by decide) ⟨rfl, fg_R hn hW hV hG⟩)))))))
    · refine fg_xok ha _ (br_t rfl (fg_xok hb _ (br_t rfl (fg_fix _ fun fx' hfx => ?_))))
      have hG' := fg_G_congr hfx hG
      have hY := fg_V_Y hV
      have e0 : fg_fo 0 (fg_gw 0 fx' va we n) 128 = fg_fo 0 (fg_wo gi va we n) 128 :=
        fg_fo_congr 0 fun M _ => by rw [fg_gw_wo (by decide), fg_wo_congr hfx]
      refine fg_solve (md := 0) (by decide) hn hW hV hG' _ fun k1 sc1 ta1 => ?_
      refine fg_sumWithBoth (x := 1) (y := 1) ha (by omega) hb (by omega) hn hW hV hG' _ fun k2 sc2 ta2 => ?_
      refine fg_sumWith (x := 1) ha (by omega) hn hW hV hG' _ fun k3 sc3 ta3 => ?_
      refine fg_sumWith (x := 1) hb (by omega) hn hW hV hG' _ fun k4 sc4 ta4 => ?_
      have eb := fg_both_eq hfx va we n a b
      have e1 := fg_share_eq hfx va we n a
      have e2 := fg_share_eq hfx va we n b
      rw [e0, ← eb, ← e1, ← e2]
      have hY2 : ∀ post : Int32 → Prop, ((lN (fg_fo 0 (fg_wo gi va we n) 128) * lN (fg_fo 0 (fg_gb gi va we n a b) 128) = lN (fg_fo 0 (fg_gb gi va we n a a) 128) * lN (fg_fo 0 (fg_gb gi va we n b b) 128) → post 1) ∧ (¬ lN (fg_fo 0 (fg_wo gi va we n) 128) * lN (fg_fo 0 (fg_gb gi va we n a b) 128) = lN (fg_fo 0 (fg_gb gi va we n a a) 128) * lN (fg_fo 0 (fg_gb gi va we n b b) 128) → post 0)) → wpY_independent post (nI n, va, we, gi) (nI a) (nI b) := by
        intro post hp
        dsimp only [wpY_independent]
        exact fg_yok ha _ (br_t rfl (fg_yok hb _ (br_t rfl (fg_ytotal hn hW hY _ (fg_yboth ha hb hn hW hY _ (fg_yshare ha hn hW hY _ (fg_yshare hb hn hW hY _ hp)))))))
      refine br_c (fun c => hY2 _ (br_t c ⟨rfl, fg_R hn hW hV hG⟩)) (fun c => hY2 _ (br_f c ⟨rfl, fg_R hn hW hV hG⟩))
end
