section
/-! ===== bits of a long (rows wb_* are from the kit's BITS.to-paste) ===== -/
theorem dk_wtb (n : Nat) : (lN n).toBitVec = BitVec.ofNat 64 n := rfl
theorem dk_winj {a b : Int64} (h : a.toBitVec = b.toBitVec) : a = b := Int64.toBitVec_inj.mp h
theorem dk_wof (x : Int64) : ∃ n, n < 2 ^ 64 ∧ x = lN n := ⟨x.toBitVec.toNat, x.toBitVec.isLt, dk_winj (by rw [dk_wtb]; simp)⟩
theorem dk_wand {a b : Nat} (ha : a < 2 ^ 64) (hb : b < 2 ^ 64) : lN a &&& lN b = lN (a &&& b) := by
  apply dk_winj
  rw [Int64.toBitVec_and, dk_wtb, dk_wtb, dk_wtb]
  apply BitVec.eq_of_toNat_eq
  rw [BitVec.toNat_and, BitVec.toNat_ofNat, BitVec.toNat_ofNat, BitVec.toNat_ofNat, Nat.mod_eq_of_lt ha, Nat.mod_eq_of_lt hb, Nat.mod_eq_of_lt (Nat.and_lt_two_pow _ hb)]
/-- the cache's slot -/
theorem dk_slot (x : Int64) : ∃ j, j < 64 ∧ (x &&& 63).toInt32 = nI j := by
  obtain ⟨n, hn, rfl⟩ := dk_wof x
  refine ⟨n % 64, Nat.mod_lt _ (by decide), ?_⟩
  have e : lN n &&& (63 : Int64) = lN (n % 64) := by
    have h := dk_wand (a := n) (b := 2 ^ 6 - 1) hn (by decide)
    rw [Nat.and_two_pow_sub_one_eq_mod] at h
    exact h
  rw [e, lN_i]
def dk_b (w : Int64) (s : Nat) : Bool := w.toBitVec.getLsbD s
theorem dk_ext {a b : Int64} (h : ∀ s, s < 64 → dk_b a s = dk_b b s) : a = b := dk_winj (BitVec.eq_of_getLsbD_eq (fun i hi => h i hi))
theorem dk_b_or (a b : Int64) (s : Nat) : dk_b (a ||| b) s = (dk_b a s || dk_b b s) := by
  unfold dk_b
  rw [Int64.toBitVec_or, BitVec.getLsbD_or]
theorem dk_b_and (a b : Int64) (s : Nat) : dk_b (a &&& b) s = (dk_b a s && dk_b b s) := by
  unfold dk_b
  rw [Int64.toBitVec_and, BitVec.getLsbD_and]
theorem dk_b_not (a : Int64) {s : Nat} (hs : s < 64) : dk_b (a ^^^ (-1)) s = !(dk_b a s) := by
  unfold dk_b
  have ha : (-1 : Int64).toBitVec = BitVec.allOnes 64 := by decide
  rw [Int64.toBitVec_xor, ha, BitVec.getLsbD_xor, BitVec.getLsbD_allOnes]
  simp [hs]
theorem dk_b_0 (s : Nat) : dk_b 0 s = false := by
  show (0#64).getLsbD s = false
  simp
theorem dk_b_m1 {s : Nat} (hs : s < 64) : dk_b (-1) s = true := by
  have ha : (-1 : Int64).toBitVec = BitVec.allOnes 64 := by decide
  unfold dk_b
  rw [ha, BitVec.getLsbD_allOnes]
  simp [hs]
def dk_1 (t : Nat) : Int64 := (1 : Int64) <<< ((nI t).toInt64 &&& 63)
theorem dk_1_tp : ∀ t, t < 64 → (dk_1 t).toBitVec = BitVec.twoPow 64 t := by decide +kernel
theorem dk_b_1 {t : Nat} (ht : t < 64) (s : Nat) : dk_b (dk_1 t) s = decide (t = s) := by
  unfold dk_b
  rw [dk_1_tp t ht, BitVec.getLsbD_twoPow]
  simp [ht]
def dk_t (w : Int64) (p : Int32) : Int64 := ((w.toUInt64 >>> (p.toInt64.toUInt64 &&& Int64.toUInt64 63)).toInt64) &&& 1
theorem dk_cu : ∀ k, k < 64 → ((nI k).toInt64.toUInt64 &&& Int64.toUInt64 63).toNat = k := by decide +kernel
theorem dk_tv {w : Int64} {j : Nat} (hj : j < 64) : dk_t w (nI j) = if dk_b w j = true then 1 else 0 := by
  have hs := dk_cu j hj
  have e : (w.toUInt64 >>> ((nI j).toInt64.toUInt64 &&& Int64.toUInt64 63)).toInt64.toBitVec = w.toBitVec >>> j := by
    apply BitVec.eq_of_toNat_eq
    show (w.toUInt64 >>> ((nI j).toInt64.toUInt64 &&& Int64.toUInt64 63)).toNat = _
    rw [UInt64.toNat_shiftRight, hs, Nat.mod_eq_of_lt hj, BitVec.toNat_ushiftRight]
    rfl
  apply dk_winj
  unfold dk_t
  rw [Int64.toBitVec_and, e]
  by_cases hb : dk_b w j = true
  · rw [if_pos hb]
    show w.toBitVec >>> j &&& 1#64 = 1#64
    unfold dk_b at hb
    apply BitVec.eq_of_getLsbD_eq
    intro i hi
    cases i with
    | zero => simp [hb]
    | succ i => simp
  · rw [if_neg hb]
    show w.toBitVec >>> j &&& 1#64 = 0#64
    unfold dk_b at hb
    apply BitVec.eq_of_getLsbD_eq
    intro i hi
    cases i with
    | zero => simp [hb]
    | succ i => simp
theorem dk_t0 {w : Int64} {j : Nat} (hj : j < 64) : dk_t w (nI j) = 0 ↔ dk_b w j = false := by
  rw [dk_tv hj]
  cases dk_b w j <;> simp
theorem dk_sh0 : ∀ s, s < 64 → (0 : Int64) <<< ((nI s).toInt64 &&& 63) = 0 := by decide +kernel
theorem dk_sh {w : Int64} {j s : Nat} (hj : j < 64) (hs : s < 64) : dk_t w (nI j) <<< ((nI s).toInt64 &&& 63) = if dk_b w j = true then dk_1 s else 0 := by
  rw [dk_tv hj]
  by_cases hb : dk_b w j = true
  · rw [if_pos hb, if_pos hb]
    rfl
  · rw [if_neg hb, if_neg hb]
    exact dk_sh0 s hs
theorem dk_b_sh {w : Int64} {j s : Nat} (hj : j < 64) (hs : s < 64) (i : Nat) : dk_b (dk_t w (nI j) <<< ((nI s).toInt64 &&& 63)) i = (decide (s = i) && dk_b w j) := by
  rw [dk_sh hj hs]
  cases hb : dk_b w j
  · rw [if_neg (by decide), dk_b_0, Bool.and_false]
  · rw [if_pos rfl, dk_b_1 hs, Bool.and_true]
/-! ===== ints in a small range ===== -/
theorem dk_nlt {a b : Int32} (h : ¬ a < b) : b ≤ a := by
  rw [Int32.lt_iff_toInt_lt] at h
  rw [Int32.le_iff_toInt_le]
  omega
theorem dk_rng {v M : Int32} {n : Nat} (hM : M.toInt = n) (h : ¬ v < 0) (h2 : ¬ M < v) : ∃ j : Nat, j ≤ n ∧ v = nI j := nI_of2 hM h (dk_nlt h2)
theorem dk_64 {s : Int32} : 63 < s ↔ 64 ≤ s := by
  rw [Int32.lt_iff_toInt_lt, Int32.le_iff_toInt_le, show (63 : Int32).toInt = 63 by decide, show (64 : Int32).toInt = 64 by decide]
  omega
theorem dk_64n {s : Int32} : s < 64 ↔ ¬ 63 < s := by
  rw [Int32.lt_iff_toInt_lt, Int32.lt_iff_toInt_lt, show (63 : Int32).toInt = 63 by decide, show (64 : Int32).toInt = 64 by decide]
  omega
theorem dk_x0 {x : Int32} (h : ¬ x < 0) (h2 : ¬ (1 : Int32) ≤ x) : x = 0 := by
  rw [Int32.lt_iff_toInt_lt, show (0 : Int32).toInt = 0 by decide] at h
  rw [Int32.le_iff_toInt_le, show (1 : Int32).toInt = 1 by decide] at h2
  apply Int32.toInt_inj.mp
  rw [show (0 : Int32).toInt = 0 by decide]
  omega
end
section
/-! ===== what the loops compute, and its bits ===== -/
def dk_val (s v : Int32) : Int32 := if v = 3 then 0 else (s >>> ((2 * v) &&& 31)) &&& 3
def dk_ct (k x y s : Int32) : Bool := if k = 0 then decide (dk_val s x = y) else !(decide (dk_val s y < dk_val s x))
def dk_cd (k x y : Int32) : Nat → Int64
  | 0 => 0
  | i + 1 => if dk_ct k x y (nI i) = true then dk_cd k x y i ||| dk_1 i else dk_cd k x y i
def dk_to (x v s : Int32) : Int32 := (s &&& (((3 : Int32) <<< ((2 * x) &&& 31)) ^^^ (-1))) ||| (v <<< ((2 * x) &&& 31))
def dk_sv (x y z : Int32) (g : Int64) : Nat → Int64
  | 0 => 0
  | i + 1 => dk_sv x y z g i ||| (dk_t g (dk_to x ((dk_val (nI i) y + z) &&& 3) (nI i)) <<< ((nI i).toInt64 &&& 63))
def dk_an1 (x v : Int32) (g r0 : Int64) : Nat → Int64
  | 0 => r0
  | i + 1 => dk_an1 x v g r0 i ||| (dk_t g (dk_to x v (nI i)) <<< ((nI i).toInt64 &&& 63))
def dk_an (x : Int32) (g : Int64) : Nat → Int64
  | 0 => 0
  | v + 1 => dk_an1 x (nI v) g (dk_an x g v) 64
/-- the map of one plain program -/
def dk_G (h : Int64) (k x y z m : Int32) (g : Int64) : Int64 :=
  if k = 1 then (if m = 0 then 0 else -1) else if k = 4 then g &&& h else if k = 5 then (if m = 0 then (g &&& h) ||| 0 else (g &&& h) ||| (h ^^^ (-1))) else if k = 2 then dk_sv x y z g 64 else if k = 3 then dk_an x g 4 else g
theorem dk_G0 (h : Int64) (x y z m : Int32) (g : Int64) : dk_G h 0 x y z m g = g := by
  unfold dk_G
  rw [if_neg (by decide), if_neg (by decide), if_neg (by decide), if_neg (by decide), if_neg (by decide)]
theorem dk_G1 (h : Int64) (x y z m : Int32) (g : Int64) : dk_G h 1 x y z m g = if m = 0 then 0 else -1 := by
  unfold dk_G
  rw [if_pos rfl]
theorem dk_G2 (h : Int64) (x y z m : Int32) (g : Int64) : dk_G h 2 x y z m g = dk_sv x y z g 64 := by
  unfold dk_G
  rw [if_neg (by decide), if_neg (by decide), if_neg (by decide), if_pos rfl]
theorem dk_G3 (h : Int64) (x y z m : Int32) (g : Int64) : dk_G h 3 x y z m g = dk_an x g 4 := by
  unfold dk_G
  rw [if_neg (by decide), if_neg (by decide), if_neg (by decide), if_neg (by decide), if_pos rfl]
theorem dk_G4 (h : Int64) (x y z m : Int32) (g : Int64) : dk_G h 4 x y z m g = g &&& h := by
  unfold dk_G
  rw [if_neg (by decide), if_pos rfl]
theorem dk_G5 (h : Int64) (x y z m : Int32) (g : Int64) : dk_G h 5 x y z m g = if m = 0 then (g &&& h) ||| 0 else (g &&& h) ||| (h ^^^ (-1)) := by
  unfold dk_G
  rw [if_neg (by decide), if_neg (by decide), if_pos rfl]
def dk_en (F : Int64 → Int64) (s : Int32) : Nat → Int64
  | 0 => 0
  | t + 1 => if dk_t (F (dk_1 t)) s = 0 then dk_en F s t else dk_en F s t ||| dk_1 t
def dk_on : Nat → Int64 → Bool
  | 0, r => decide (r = 0)
  | n + 1, r => !(decide (r = 0)) && dk_on n (r &&& (r - 1))
/-- E has c ones, and the lowest of them is e -/
def dk_E (E : Int64) (c e : Nat) : Prop := dk_on c E = true ∧ c ≤ 4 ∧ (c ≠ 0 → e < 64 ∧ dk_b E e = true ∧ ∀ i, i < e → dk_b E i = false)
theorem dk_lt_s {s n : Nat} : decide (s < n + 1) = (decide (s < n) || decide (n = s)) := by
  rw [Bool.eq_iff_iff]
  simp
  omega
theorem dk_cd_b (k x y : Int32) : ∀ n, n ≤ 64 → ∀ s, dk_b (dk_cd k x y n) s = (decide (s < n) && dk_ct k x y (nI s)) := by
  intro n
  induction n with
  | zero =>
    intro _ s
    show dk_b 0 s = _
    rw [dk_b_0]
    simp
  | succ n ih =>
    intro hn s
    have ih' := ih (by omega) s
    unfold dk_cd
    rw [dk_lt_s]
    by_cases hc : dk_ct k x y (nI n) = true
    · rw [if_pos hc, dk_b_or, ih', dk_b_1 (by omega)]
      by_cases e : n = s
      · subst e
        simp [hc]
      · simp [e]
    · rw [if_neg hc, ih']
      by_cases e : n = s
      · subst e
        simp [hc]
      · simp [e]
theorem dk_en_b (F : Int64 → Int64) {j : Nat} (hj : j < 64) : ∀ n, n ≤ 64 → ∀ t, dk_b (dk_en F (nI j) n) t = (decide (t < n) && dk_b (F (dk_1 t)) j) := by
  intro n
  induction n with
  | zero =>
    intro _ s
    show dk_b 0 s = _
    rw [dk_b_0]
    simp
  | succ n ih =>
    intro hn s
    have ih' := ih (by omega) s
    unfold dk_en
    rw [dk_lt_s]
    by_cases hc : dk_t (F (dk_1 n)) (nI j) = 0
    · rw [if_pos hc, ih']
      rw [dk_t0 hj] at hc
      by_cases e : n = s
      · subst e
        simp [hc]
      · simp [e]
    · rw [if_neg hc, dk_b_or, ih', dk_b_1 (by omega)]
      rw [dk_t0 hj] at hc
      by_cases e : n = s
      · subst e
        simp [hc]
      · simp [e]
/-- the place where a state with one variable set lies -/
def dk_tn (x v s : Nat) : Nat := (dk_to (nI x) (nI v) (nI s)).toNatClampNeg
theorem dk_tn_ok : ∀ x, x < 3 → ∀ v, v < 4 → ∀ s, s < 64 → dk_to (nI x) (nI v) (nI s) = nI (dk_tn x v s) ∧ dk_tn x v s < 64 := by decide +kernel
theorem dk_m3 (a : Int32) : ∃ v, v < 4 ∧ a &&& 3 = nI v := pk_andE a 2 (by decide)
theorem dk_sv_b {x : Nat} (hx : x < 3) (y z : Int32) (g : Int64) : ∀ n, n ≤ 64 → ∀ s v, v < 4 → (dk_val (nI s) y + z) &&& 3 = nI v → dk_b (dk_sv (nI x) y z g n) s = (decide (s < n) && dk_b g (dk_tn x v s)) := by
  intro n
  induction n with
  | zero =>
    intro _ s v _ _
    show dk_b 0 s = _
    rw [dk_b_0]
    simp
  | succ n ih =>
    intro hn s v hv ev
    have ih' := ih (by omega) s v hv ev
    obtain ⟨v', hv', ev'⟩ := dk_m3 (dk_val (nI n) y + z)
    obtain ⟨e1, e2⟩ := dk_tn_ok x hx v' hv' n (by omega)
    unfold dk_sv
    rw [dk_lt_s, dk_b_or, ih', ev', e1, dk_b_sh e2 (by omega)]
    by_cases e : n = s
    · subst e
      have hvv : v' = v := by
        rw [ev'] at ev
        exact (nI_eq (by omega) (by omega)).mp ev
      subst hvv
      simp
    · simp [e]
theorem dk_an1_b {x v : Nat} (hx : x < 3) (hv : v < 4) (g r0 : Int64) : ∀ n, n ≤ 64 → ∀ s, dk_b (dk_an1 (nI x) (nI v) g r0 n) s = (dk_b r0 s || (decide (s < n) && dk_b g (dk_tn x v s))) := by
  intro n
  induction n with
  | zero =>
    intro _ s
    show dk_b r0 s = _
    simp
  | succ n ih =>
    intro hn s
    have ih' := ih (by omega) s
    obtain ⟨e1, e2⟩ := dk_tn_ok x hx v hv n (by omega)
    unfold dk_an1
    rw [dk_lt_s, dk_b_or, ih', e1, dk_b_sh e2 (by omega)]
    by_cases e : n = s
    · subst e
      simp
    · simp [e]
theorem dk_an_b {x : Nat} (hx : x < 3) (g : Int64) {s : Nat} (hs : s < 64) : dk_b (dk_an (nI x) g 4) s = (dk_b g (dk_tn x 0 s) || dk_b g (dk_tn x 1 s) || dk_b g (dk_tn x 2 s) || dk_b g (dk_tn x 3 s)) := by
  show dk_b (dk_an1 (nI x) (nI 3) g (dk_an1 (nI x) (nI 2) g (dk_an1 (nI x) (nI 1) g (dk_an1 (nI x) (nI 0) g 0 64) 64) 64) 64) s = _
  rw [dk_an1_b hx (by omega) _ _ 64 (by omega), dk_an1_b hx (by omega) _ _ 64 (by omega), dk_an1_b hx (by omega) _ _ 64 (by omega), dk_an1_b hx (by omega) _ _ 64 (by omega), dk_b_0]
  simp [hs]
/-! ===== the answers ===== -/
def dk_4 (x j : Nat) : Int64 := dk_1 (dk_tn x 0 j) ||| dk_1 (dk_tn x 1 j) ||| dk_1 (dk_tn x 2 j) ||| dk_1 (dk_tn x 3 j)
theorem dk_E0 (e : Nat) : dk_E 0 0 e := ⟨by decide, by decide, fun h => absurd rfl h⟩
theorem dk_on1 : ∀ t, t < 64 → dk_on 1 (dk_1 t) = true := by decide +kernel
theorem dk_E1 {t : Nat} (ht : t < 64) : dk_E (dk_1 t) 1 t := by
  refine ⟨dk_on1 t ht, by decide, fun _ => ⟨ht, ?_, fun i hi => ?_⟩⟩
  · rw [dk_b_1 ht]
    simp
  · rw [dk_b_1 ht]
    simp
    omega
theorem dk_on4 : ∀ x, x < 3 → ∀ j, j < 64 → dk_on 4 (dk_4 x j) = true := by decide +kernel
theorem dk_tn_le : ∀ x, x < 3 → ∀ j, j < 64 → dk_tn x 0 j < dk_tn x 1 j ∧ dk_tn x 0 j < dk_tn x 2 j ∧ dk_tn x 0 j < dk_tn x 3 j := by decide +kernel
theorem dk_4_b {x j : Nat} (hx : x < 3) (hj : j < 64) (t : Nat) : dk_b (dk_4 x j) t = (decide (dk_tn x 0 j = t) || decide (dk_tn x 1 j = t) || decide (dk_tn x 2 j = t) || decide (dk_tn x 3 j = t)) := by
  unfold dk_4
  rw [dk_b_or, dk_b_or, dk_b_or, dk_b_1 (dk_tn_ok x hx 0 (by omega) j hj).2, dk_b_1 (dk_tn_ok x hx 1 (by omega) j hj).2, dk_b_1 (dk_tn_ok x hx 2 (by omega) j hj).2, dk_b_1 (dk_tn_ok x hx 3 (by omega) j hj).2]
theorem dk_E4 {x j : Nat} (hx : x < 3) (hj : j < 64) : dk_E (dk_4 x j) 4 (dk_tn x 0 j) := by
  obtain ⟨l1, l2, l3⟩ := dk_tn_le x hx j hj
  refine ⟨dk_on4 x hx j hj, by decide, fun _ => ⟨(dk_tn_ok x hx 0 (by omega) j hj).2, ?_, fun i hi => ?_⟩⟩
  · rw [dk_4_b hx hj]
    simp
  · rw [dk_4_b hx hj, decide_eq_false (by omega), decide_eq_false (by omega), decide_eq_false (by omega), decide_eq_false (by omega)]
    rfl
theorem dk_en_eq {F : Int64 → Int64} {j : Nat} (hj : j < 64) {E : Int64} (h : ∀ t, t < 64 → dk_b (F (dk_1 t)) j = dk_b E t) : dk_en F (nI j) 64 = E := by
  apply dk_ext
  intro t ht
  rw [dk_en_b F hj 64 (by omega), h t ht]
  simp [ht]
theorem dk_r0 (h : Int64) (x y z : Int32) {j : Nat} (hj : j < 64) : dk_en (dk_G h 0 x y z 0) (nI j) 64 = dk_1 j := by
  apply dk_en_eq hj
  intro t ht
  rw [dk_G0, dk_b_1 ht, dk_b_1 hj]
  simp [eq_comm]
theorem dk_r1 (h : Int64) (x y z : Int32) {j : Nat} (hj : j < 64) : dk_en (dk_G h 1 x y z 0) (nI j) 64 = 0 := by
  apply dk_en_eq hj
  intro t ht
  rw [dk_G1, if_pos rfl, dk_b_0, dk_b_0]
theorem dk_r2 (h : Int64) {x : Nat} (hx : x < 3) (y z : Int32) {j v : Nat} (hj : j < 64) (hv : v < 4) (ev : (dk_val (nI j) y + z) &&& 3 = nI v) : dk_en (dk_G h 2 (nI x) y z 0) (nI j) 64 = dk_1 (dk_tn x v j) := by
  apply dk_en_eq hj
  intro t ht
  rw [dk_G2, dk_sv_b hx y z _ 64 (by omega) j v hv ev, dk_b_1 ht, dk_b_1 (dk_tn_ok x hx v hv j hj).2]
  simp [hj, eq_comm]
theorem dk_r3 (h : Int64) {x : Nat} (hx : x < 3) (y z : Int32) {j : Nat} (hj : j < 64) : dk_en (dk_G h 3 (nI x) y z 0) (nI j) 64 = dk_4 x j := by
  apply dk_en_eq hj
  intro t ht
  rw [dk_G3, dk_an_b hx _ hj, dk_4_b hx hj, dk_b_1 ht, dk_b_1 ht, dk_b_1 ht, dk_b_1 ht]
  simp only [eq_comm]
theorem dk_r45 (h : Int64) (k x y z : Int32) (hk : k = 4 ∨ k = 5) {j : Nat} (hj : j < 64) : dk_en (dk_G h k x y z 0) (nI j) 64 = if dk_b h j = true then dk_1 j else 0 := by
  apply dk_en_eq hj
  intro t ht
  have e : dk_b (dk_G h k x y z 0 (dk_1 t)) j = (decide (t = j) && dk_b h j) := by
    rcases hk with rfl | rfl
    · rw [dk_G4, dk_b_and, dk_b_1 ht]
    · rw [dk_G5, if_pos rfl, dk_b_or, dk_b_and, dk_b_1 ht, dk_b_0, Bool.or_false]
  rw [e]
  cases hb : dk_b h j
  · rw [if_neg (by decide), dk_b_0, Bool.and_false]
  · rw [if_pos rfl, dk_b_1 hj, Bool.and_true]
    simp [eq_comm]
/-- the last question: may it fail -/
theorem dk_f (h : Int64) (k x y z : Int32) (hk : k = 0 ∨ k = 1 ∨ (k = 2 ∧ ∃ n, n < 3 ∧ x = nI n) ∨ (k = 3 ∧ ∃ n, n < 3 ∧ x = nI n) ∨ k = 4 ∨ k = 5) {j : Nat} (hj : j < 64) : dk_b (dk_G h k x y z 1 0) j = (decide (k = 1) || (decide (k = 5) && !(dk_b h j))) := by
  rcases hk with rfl | rfl | ⟨rfl, n, hn, rfl⟩ | ⟨rfl, n, hn, rfl⟩ | rfl | rfl
  · rw [dk_G0, dk_b_0]
    rfl
  · rw [dk_G1, if_neg (by decide), dk_b_m1 hj]
    rfl
  · obtain ⟨v, hv, ev⟩ := dk_m3 (dk_val (nI j) y + z)
    rw [dk_G2, dk_sv_b hn y z _ 64 (by omega) j v hv ev, dk_b_0, Bool.and_false]
    rfl
  · rw [dk_G3, dk_an_b hn _ hj, dk_b_0, dk_b_0, dk_b_0, dk_b_0]
    rfl
  · rw [dk_G4, dk_b_and, dk_b_0]
    rfl
  · rw [dk_G5, if_neg (by decide), dk_b_or, dk_b_and, dk_b_0, dk_b_not h hj]
    cases dk_b h j <;> rfl
end
section
/-! ===== the small methods; condition, holds, program ===== -/
section
variable {cc pc lv d : Int32} {w : Int64} {a1 a10 a11 a13 a15 a16 : Nat → Int64} {a2 a3 a4 a5 a6 a7 a8 a9 a12 a14 : Nat → Int32}
def dk_is (P : Prop) (v : Int32) : Prop := (P ∧ v = 1) ∨ (¬ P ∧ v = 0)
theorem dk_is1 {P : Prop} (p : P) : dk_is P 1 := Or.inl ⟨p, rfl⟩
theorem dk_is0 {P : Prop} (p : ¬ P) : dk_is P 0 := Or.inr ⟨p, rfl⟩
theorem dk_br {P A B : Prop} {r : Int32} (hr : dk_is P r) (f : ¬ P → A) (g : P → B) : (r = 0 → A) ∧ (¬ r = 0 → B) := by
  rcases hr with ⟨p, rfl⟩ | ⟨p, rfl⟩
  · exact br_f (by decide) (g p)
  · exact br_t rfl (f p)
theorem dk_two {post : Int32 → Prop} {A B : Prop} (h : ∀ r, dk_is (¬ A ∧ ¬ B) r → post r) : (A → post 0) ∧ (¬ A → ((B → post 0) ∧ (¬ B → post 1))) :=
  br_c (fun a => h 0 (dk_is0 (fun t => t.1 a))) (fun a => br_c (fun b => h 0 (dk_is0 (fun t => t.2 b))) (fun b => h 1 (dk_is1 ⟨a, b⟩)))
theorem dk_in {post : Int32 → Prop} {u : St0} {v lo hi : Int32} (h : ∀ r, dk_is (¬ v < lo ∧ ¬ hi < v) r → post r) : wpL_in post u v lo hi := dk_two h
theorem dk_isVar {post : Int32 → Prop} {v : Int32} (h : ∀ r, dk_is (¬ v < 0 ∧ ¬ 2 < v) r → post r) : wpX_isVariable post (cc, pc, lv, d, w, a1, a2, a3, a4, a5, a6, a7, a8, a9, a10, a11, a12, a13, a14, a15, a16) v := dk_two h
theorem dk_isCond {post : Int32 → Prop} {v : Int32} (h : ∀ r, dk_is (¬ v < 0 ∧ ¬ cc ≤ v) r → post r) : wpX_isCondition post (cc, pc, lv, d, w, a1, a2, a3, a4, a5, a6, a7, a8, a9, a10, a11, a12, a13, a14, a15, a16) v := dk_two h
theorem dk_isProg {post : Int32 → Prop} {v : Int32} (h : ∀ r, dk_is (¬ v < 0 ∧ ¬ pc ≤ v) r → post r) : wpX_isProgram post (cc, pc, lv, d, w, a1, a2, a3, a4, a5, a6, a7, a8, a9, a10, a11, a12, a13, a14, a15, a16) v := dk_two h
theorem dk_valueIn {post : Int32 → Prop} {s v : Int32} (h : post (dk_val s v)) : wpX_valueIn post (cc, pc, lv, d, w, a1, a2, a3, a4, a5, a6, a7, a8, a9, a10, a11, a12, a13, a14, a15, a16) s v := by
  unfold dk_val at h
  by_cases e : v = 3
  · rw [if_pos e] at h
    exact br_t e h
  · rw [if_neg e] at h
    exact br_f e h
theorem dk_c273 {post : Int32 → St2 → Prop} {x5 : Int64} (h : post 0 (1, pc, lv, d, w, vp_updL a1 0 x5, a2, a3, a4, a5, a6, a7, a8, a9, a10, a11, a12, a13, a14, a15, a16)) : wX_condition_273 post x5 0 pc lv d w a1 a2 a3 a4 a5 a6 a7 a8 a9 a10 a11 a12 a13 a14 a15 a16 := by
  unfold wX_condition_273
  refine ⟨pk_in 0 24 (by decide), nm_r (e' := vp_updL a1 0 x5) (by rw [sb_cl0]) (nm_r (e' := (1 : Int32)) (by decide) ?_)⟩
  rw [show (1 : Int32) - 1 = 0 by decide]
  exact h
theorem dk_c226 {post : Int32 → St2 → Prop} {J : Int64 → Int32 → Prop} {k x y z0 : Int32} {i : Nat} (hz : z0 = if k = 0 then y else dk_val (nI i) y) (hw : J (dk_cd k x y (i + 1)) (nI (i + 1))) : wX_condition_226 post J k x y (dk_cd k x y i) (nI i) z0 cc pc lv d w a1 a2 a3 a4 a5 a6 a7 a8 a9 a10 a11 a12 a13 a14 a15 a16 := by
  have ht : dk_ct k x y (nI i) = true → dk_cd k x y (i + 1) = dk_cd k x y i ||| dk_1 i := fun e => if_pos e
  have hf : ¬ dk_ct k x y (nI i) = true → dk_cd k x y (i + 1) = dk_cd k x y i := fun e => if_neg e
  unfold wX_condition_226
  refine dk_valueIn ?_
  by_cases k0 : k = 0
  · rw [if_pos k0] at hz
    refine br_t k0 (br_c (fun e => ?_) (fun e => ?_))
    · have c : dk_ct k x y (nI i) = true := by
        unfold dk_ct
        rw [if_pos k0]
        exact decide_eq_true (e.trans hz)
      rw [ht c] at hw
      exact nm_e (nm_r (nI_1 i) hw)
    · have c : ¬ dk_ct k x y (nI i) = true := by
        unfold dk_ct
        rw [if_pos k0]
        exact fun t => e ((of_decide_eq_true t).trans hz.symm)
      rw [hf c] at hw
      exact nm_r (nI_1 i) hw
  · rw [if_neg k0] at hz
    refine br_f k0 (br_c (fun e => ?_) (fun e => ?_))
    · have c : ¬ dk_ct k x y (nI i) = true := by
        unfold dk_ct
        rw [if_neg k0, ← hz, decide_eq_true e]
        decide
      rw [hf c] at hw
      exact nm_r (nI_1 i) hw
    · have c : dk_ct k x y (nI i) = true := by
        unfold dk_ct
        rw [if_neg k0, ← hz, decide_eq_false e]
        rfl
      rw [ht c] at hw
      exact nm_e (nm_r (nI_1 i) hw)
theorem dk_c199 {post : Int32 → St2 → Prop} {k x y : Int32} (hk : k = 0 ∨ k = 1) (h : post 0 (1, pc, lv, d, w, vp_updL a1 0 (dk_cd k x y 64), a2, a3, a4, a5, a6, a7, a8, a9, a10, a11, a12, a13, a14, a15, a16)) : ∃ n, wX_condition_199 post k x y 0 pc lv d w a1 a2 a3 a4 a5 a6 a7 a8 a9 a10 a11 a12 a13 a14 a15 a16 n 0 0 := by
  have k2 : ¬ 2 ≤ k := by rcases hk with rfl | rfl <;> decide
  exact pk_loop (σ := Unit) (fun n i _ => wX_condition_199 post k x y 0 pc lv d w a1 a2 a3 a4 a5 a6 a7 a8 a9 a10 a11 a12 a13 a14 a15 a16 n (dk_cd k x y i) (nI i)) (fun _ _ => True) 64 0 () (by omega) trivial
    (fun n _ _ => pk_le 64 64 (fun _ => dk_c273 h) (fun z => absurd z (by omega)))
    (fun n i _ hi _ hw => pk_le 64 i (fun z => absurd z (by omega)) (fun _ => br_f k2 (br_c (fun k0 => dk_c226 (by rw [if_pos k0]) (hw () trivial)) (fun k0 => dk_valueIn (dk_c226 (by rw [if_neg k0]) (hw () trivial))))))
def dk_first (k x y : Int32) : Prop := (k = 0 ∨ k = 1) ∧ (¬ x < 0 ∧ ¬ 2 < x) ∧ ¬ y < 0 ∧ ¬ (if k = 0 then (3 : Int32) else 2) < y
theorem dk_cond {post : Int32 → St2 → Prop} {k x y : Int32} (h1 : dk_first k x y → post 0 (1, pc, lv, d, w, vp_updL a1 0 (dk_cd k x y 64), a2, a3, a4, a5, a6, a7, a8, a9, a10, a11, a12, a13, a14, a15, a16)) (h0 : ¬ dk_first k x y → post (-1) (0, pc, lv, d, w, a1, a2, a3, a4, a5, a6, a7, a8, a9, a10, a11, a12, a13, a14, a15, a16)) : wpX_condition post (0, pc, lv, d, w, a1, a2, a3, a4, a5, a6, a7, a8, a9, a10, a11, a12, a13, a14, a15, a16) k x y := by
  have g0 : ¬ dk_first k x y → wX_condition_125 post k x y 0 0 pc lv d w a1 a2 a3 a4 a5 a6 a7 a8 a9 a10 a11 a12 a13 a14 a15 a16 := fun h => br_t rfl (h0 h)
  have g1 : dk_first k x y → wX_condition_125 post k x y 1 0 pc lv d w a1 a2 a3 a4 a5 a6 a7 a8 a9 a10 a11 a12 a13 a14 a15 a16 := by
    intro h
    have a : ¬ k = 2 := by rcases h.1 with e | e <;> rw [e] <;> decide
    have b : k ≤ 2 := by rcases h.1 with e | e <;> rw [e] <;> decide
    exact br_f (by decide) (br_f a (br_t b (dk_c199 h.1 (h1 h))))
  have nc : ∀ v : Int32, ¬ (¬ v < 0 ∧ ¬ 0 ≤ v) := fun v t => t.2 (dk_nlt t.1)
  unfold wpX_condition
  refine br_t (by decide) (br_c (fun k0 => ?_) (fun k0 => br_c (fun k1 => ?_) (fun k1 => ?_)))
  · refine dk_isVar (fun r hr => dk_br hr (fun n => g0 (fun t => n t.2.1)) (fun p => br_c (fun a => g0 (fun t => t.2.2.1 a)) (fun a => br_c (fun b => g0 (fun t => t.2.2.2 ?_)) (fun b => g1 ⟨Or.inl k0, p, a, ?_⟩))))
    · rw [if_pos k0]
      exact b
    · rw [if_pos k0]
      exact b
  · refine dk_isVar (fun r hr => dk_br hr (fun n => g0 (fun t => n t.2.1)) (fun p => dk_isVar (fun r2 hr2 => dk_br hr2 (fun n => g0 (fun t => n ⟨t.2.2.1, ?_⟩)) (fun q => g1 ⟨Or.inr k1, p, q.1, ?_⟩))))
    · have z := t.2.2.2
      rw [if_neg k0] at z
      exact z
    · rw [if_neg k0]
      exact q.2
  · have f0 : ¬ dk_first k x y := fun t => t.1.elim k0 k1
    have g102 : wX_condition_102 post k x y 0 pc lv d w a1 a2 a3 a4 a5 a6 a7 a8 a9 a10 a11 a12 a13 a14 a15 a16 := by
      unfold wX_condition_102
      exact dk_isCond (fun r hr => dk_br hr (fun _ => g0 f0) (fun p => absurd p (nc _)))
    refine br_c (fun k2 => dk_isCond (fun r hr => ?_)) (fun k2 => br_c (fun k3 => g102) (fun k3 => br_c (fun k4 => g102) (fun k4 => g0 f0)))
    rcases hr with ⟨p, _⟩ | ⟨_, rfl⟩
    · exact absurd p (nc _)
    · exact g0 f0
theorem dk_holds {post : Int32 → Prop} {s : Int32} (h : ∀ r, dk_is (¬ cc ≤ 0 ∧ (¬ s < 0 ∧ ¬ 63 < s) ∧ ¬ dk_t (a1 0) s = 0) r → post r) : wpX_holds post (cc, pc, lv, d, w, a1, a2, a3, a4, a5, a6, a7, a8, a9, a10, a11, a12, a13, a14, a15, a16) 0 s := by
  unfold wpX_holds
  refine dk_isCond (fun r hr => dk_br hr (fun n => h 0 (dk_is0 (fun t => n ⟨by decide, t.1⟩))) (fun p => br_c (fun a => h 0 (dk_is0 (fun t => t.2.1.1 a))) (fun a => br_c (fun b => h 0 (dk_is0 (fun t => t.2.1.2 (dk_64.mpr b)))) (fun b => ⟨pk_in 0 24 (by decide), ?_⟩))))
  rw [sb_cl0]
  exact br_c (fun e => h 0 (dk_is0 (fun t => t.2.2 e))) (fun e => h 1 (dk_is1 ⟨p.2, ⟨a, fun z => b (dk_64.mp z)⟩, e⟩))
/-- the program is taken: cc is the number of conditions; no program stands yet -/
def dk_mk (cc k x y z : Int32) : Prop := k = 0 ∨ k = 1 ∨ (k = 2 ∧ (¬ x < 0 ∧ ¬ 2 < x) ∧ (¬ y < 0 ∧ ¬ 3 < y) ∧ (¬ z < 0 ∧ ¬ 3 < z)) ∨ (k = 3 ∧ (¬ x < 0 ∧ ¬ 2 < x)) ∨ ((k = 4 ∨ k = 5) ∧ (¬ x < 0 ∧ ¬ cc ≤ x))
theorem dk_mk0 {k x y z : Int32} (h0 : ¬ k = 0) (h1 : ¬ k = 1) (h2 : k = 2 → ¬ ((¬ x < 0 ∧ ¬ 2 < x) ∧ (¬ y < 0 ∧ ¬ 3 < y) ∧ (¬ z < 0 ∧ ¬ 3 < z))) (h3 : k = 3 → ¬ (¬ x < 0 ∧ ¬ 2 < x)) (h4 : k = 4 ∨ k = 5 → ¬ (¬ x < 0 ∧ ¬ cc ≤ x)) : ¬ dk_mk cc k x y z :=
  fun t => t.elim h0 (fun t => t.elim h1 (fun t => t.elim (fun t => h2 t.1 t.2) (fun t => t.elim (fun t => h3 t.1 t.2) (fun t => h4 t.1 t.2))))
theorem dk_mkr {k x y z : Int32} (t : dk_mk cc k x y z) : ¬ k < 0 ∧ ¬ 9 < k ∧ ¬ 6 ≤ k ∧ ¬ k = 6 ∧ ¬ k = 8 ∧ ¬ k = 7 ∧ ¬ k = 9 ∧ k.toInt8.toInt32 = k := by
  rcases t with rfl | rfl | ⟨rfl, _⟩ | ⟨rfl, _⟩ | ⟨rfl | rfl, _⟩ <;> decide
theorem dk_k09 : ∀ j, j < 10 → nI j = 0 ∨ nI j = 1 ∨ nI j = 2 ∨ nI j = 3 ∨ nI j = 6 ∨ nI j = 7 ∨ nI j = 8 ∨ nI j = 9 ∨ nI j = 4 ∨ nI j = 5 := by decide +kernel
theorem dk_k45 {k : Int32} (a : ¬ k < 0) (b : ¬ 9 < k) (k0 : ¬ k = 0) (k1 : ¬ k = 1) (k2 : ¬ k = 2) (k3 : ¬ k = 3) (k6 : ¬ k = 6) (k7 : ¬ k = 7) (k8 : ¬ k = 8) (k9 : ¬ k = 9) : k = 4 ∨ k = 5 := by
  obtain ⟨j, hj, rfl⟩ := dk_rng (M := 9) (n := 9) (by decide) a b
  rcases dk_k09 j (by omega) with e | e | e | e | e | e | e | e | e
  · exact absurd e k0
  · exact absurd e k1
  · exact absurd e k2
  · exact absurd e k3
  · exact absurd e k6
  · exact absurd e k7
  · exact absurd e k8
  · exact absurd e k9
  · exact e
theorem dk_fit {post : Int32 → Prop} {k x y z : Int32} (ha : ¬ k < 0) (hb : ¬ 9 < k) (h : ∀ r, dk_is (dk_mk cc k x y z) r → post r) : wpX_operandsFit post (cc, 0, lv, d, w, a1, a2, a3, a4, a5, a6, a7, a8, a9, a10, a11, a12, a13, a14, a15, a16) k x y z := by
  have np : ∀ {A : Prop} (v : Int32), (¬ v < 0 ∧ ¬ 0 ≤ v) → A := fun v t => absurd (dk_nlt t.1) t.2
  unfold wpX_operandsFit
  refine br_c (fun e => h 1 (dk_is1 (Or.inl e))) (fun k0 => br_c (fun e => h 1 (dk_is1 (Or.inr (Or.inl e)))) (fun k1 => br_c (fun k2 => ?_) (fun k2 => br_c (fun k3 => ?_) (fun k3 => br_c (fun k6 => ?_) (fun k6 => br_c (fun k8 => ?_) (fun k8 => ?_))))))
  · have N : ¬ ((¬ x < 0 ∧ ¬ 2 < x) ∧ (¬ y < 0 ∧ ¬ 3 < y) ∧ (¬ z < 0 ∧ ¬ 3 < z)) → post 0 := fun n => h 0 (dk_is0 (dk_mk0 k0 k1 (fun _ => n) (fun e => absurd (k2.symm.trans e) (by decide)) (fun e => e.elim (fun e => absurd (k2.symm.trans e) (by decide)) (fun e => absurd (k2.symm.trans e) (by decide)))))
    exact dk_isVar (fun r hr => dk_br hr (fun n => N (fun t => n t.1)) (fun p => br_c (fun a => N (fun t => t.2.1.1 a)) (fun a => br_c (fun b => N (fun t => t.2.1.2 b)) (fun b => br_c (fun c => N (fun t => t.2.2.1 c)) (fun c => br_c (fun d => N (fun t => t.2.2.2 d)) (fun d => h 1 (dk_is1 (Or.inr (Or.inr (Or.inl ⟨k2, p, ⟨a, b⟩, ⟨c, d⟩⟩))))))))))
  · refine dk_isVar (fun r hr => ?_)
    rcases hr with ⟨p, rfl⟩ | ⟨p, rfl⟩
    · exact ⟨rfl, h 1 (dk_is1 (Or.inr (Or.inr (Or.inr (Or.inl ⟨k3, p⟩)))))⟩
    · exact ⟨rfl, h 0 (dk_is0 (dk_mk0 k0 k1 (fun e => absurd e k2) (fun _ => p) (fun e => e.elim (fun e => absurd (k3.symm.trans e) (by decide)) (fun e => absurd (k3.symm.trans e) (by decide)))))⟩
  · have n : ¬ dk_mk cc k x y z := dk_mk0 k0 k1 (fun e => absurd e k2) (fun e => absurd e k3) (fun e => e.elim (fun e => absurd (k6.symm.trans e) (by decide)) (fun e => absurd (k6.symm.trans e) (by decide)))
    unfold wX_operandsFit_73
    exact dk_isProg (fun r hr => dk_br hr (fun _ => h 0 (dk_is0 n)) (np _))
  · have n : ¬ dk_mk cc k x y z := dk_mk0 k0 k1 (fun e => absurd e k2) (fun e => absurd e k3) (fun e => e.elim (fun e => absurd (k8.symm.trans e) (by decide)) (fun e => absurd (k8.symm.trans e) (by decide)))
    unfold wX_operandsFit_73
    exact dk_isProg (fun r hr => dk_br hr (fun _ => h 0 (dk_is0 n)) (np _))
  · refine dk_isCond (fun r hr => dk_br hr (fun n => h 0 (dk_is0 (dk_mk0 k0 k1 (fun e => absurd e k2) (fun e => absurd e k3) (fun _ => n)))) (fun p => br_c (fun k7 => ?_) (fun k7 => br_c (fun k9 => ?_) (fun k9 => h 1 (dk_is1 (Or.inr (Or.inr (Or.inr (Or.inr ⟨dk_k45 ha hb k0 k1 k2 k3 k6 k7 k8 k9, p⟩)))))))))
    · have n : ¬ dk_mk cc k x y z := dk_mk0 k0 k1 (fun e => absurd e k2) (fun e => absurd e k3) (fun e => e.elim (fun e => absurd (k7.symm.trans e) (by decide)) (fun e => absurd (k7.symm.trans e) (by decide)))
      exact dk_isProg (fun r hr => dk_br hr (fun _ => h 0 (dk_is0 n)) (np _))
    · have n : ¬ dk_mk cc k x y z := dk_mk0 k0 k1 (fun e => absurd e k2) (fun e => absurd e k3) (fun e => e.elim (fun e => absurd (k9.symm.trans e) (by decide)) (fun e => absurd (k9.symm.trans e) (by decide)))
      exact dk_isProg (fun r hr => dk_br hr (fun _ => h 0 (dk_is0 n)) (np _))
theorem dk_prog {post : Int32 → St2 → Prop} {k x y z : Int32} (h1 : dk_mk cc k x y z → post 0 (cc, 1, lv, d, w, a1, upd a2 0 k.toInt8.toInt32, upd a3 0 x.toInt8.toInt32, upd a4 0 y.toInt8.toInt32, upd a5 0 z.toInt8.toInt32, upd a6 0 (1 : Int32).toInt8.toInt32, a7, a8, a9, a10, a11, a12, a13, a14, a15, a16)) (h0 : ¬ dk_mk cc k x y z → post (-1) (cc, 0, lv, d, w, a1, a2, a3, a4, a5, a6, a7, a8, a9, a10, a11, a12, a13, a14, a15, a16)) : wpX_program post (cc, 0, lv, d, w, a1, a2, a3, a4, a5, a6, a7, a8, a9, a10, a11, a12, a13, a14, a15, a16) k x y z := by
  have I : vp_in 0 32 := pk_in 0 32 (by decide)
  unfold wpX_program
  refine br_t (by decide) (br_c (fun a => h0 (fun t => (dk_mkr t).1 a)) (fun a => br_c (fun b => h0 (fun t => (dk_mkr t).2.1 b)) (fun b => dk_fit a b (fun r hr => dk_br hr (fun n => h0 n) (fun p => ?_)))))
  obtain ⟨_, _, _, k6, k8, k7, k9, _⟩ := dk_mkr p
  refine br_f k6 (br_f k8 (br_f k7 (br_f k9 (br_t (by decide) ?_))))
  refine nm_r (e' := (1 : Int32)) (by decide) ⟨I, nm_r (e' := upd a2 0 k.toInt8.toInt32) (by rw [sb_cl0]) ⟨I, nm_r (e' := upd a3 0 x.toInt8.toInt32) (by rw [sb_cl0]) ⟨I, nm_r (e' := upd a4 0 y.toInt8.toInt32) (by rw [sb_cl0]) ⟨I, nm_r (e' := upd a5 0 z.toInt8.toInt32) (by rw [sb_cl0]) ⟨I, nm_r (e' := upd a6 0 (1 : Int32).toInt8.toInt32) (by rw [sb_cl0]) (h1 p)⟩⟩⟩⟩⟩
end
end
section
/-! ===== map: one step; endsOf; the questions ===== -/
section
variable {cc pc lv d : Int32} {w : Int64} {a1 a10 a11 a13 a15 a16 : Nat → Int64} {a2 a3 a4 a5 a6 a7 a8 a9 a12 a14 : Nat → Int32}
theorem dk_enter0 {post : St2 → Prop} {p q : Int32} (h : post (cc, pc, lv, 1, w, a1, a2, a3, a4, a5, a6, upd a7 0 p.toInt8.toInt32, upd a8 0 0, upd a9 0 q.toInt8.toInt32, vp_updL a10 0 w, a11, a12, a13, a14, a15, a16)) : wpX_enter post (cc, pc, lv, 0, w, a1, a2, a3, a4, a5, a6, a7, a8, a9, a10, a11, a12, a13, a14, a15, a16) p q := by
  have I : vp_in 0 24 := pk_in 0 24 (by decide)
  unfold wpX_enter
  exact ⟨I, nm_r (e' := upd a7 0 p.toInt8.toInt32) (by rw [sb_cl0]) ⟨I, nm_r (e' := upd a9 0 q.toInt8.toInt32) (by rw [sb_cl0]) ⟨I, nm_r (e' := upd a8 0 0) (by rw [sb_cl0]) ⟨I, nm_r (e' := vp_updL a10 0 w) (by rw [sb_cl0]) (nm_r (e' := (1 : Int32)) (by decide) h)⟩⟩⟩⟩
theorem dk_setV {post : St2 → Prop} {x y z : Int32} (h : post (cc, pc, lv, d, dk_sv x y z w 64, a1, a2, a3, a4, a5, a6, a7, a8, a9, a10, a11, a12, a13, a14, a15, a16)) : wpX_setVariable post (cc, pc, lv, d, w, a1, a2, a3, a4, a5, a6, a7, a8, a9, a10, a11, a12, a13, a14, a15, a16) x y z :=
  pk_loop (σ := Unit) (fun n i _ => wX_setVariable_6 post x y z cc pc lv d w a1 a2 a3 a4 a5 a6 a7 a8 a9 a10 a11 a12 a13 a14 a15 a16 n (dk_sv x y z w i) (nI i)) (fun _ _ => True) 64 0 () (by omega) trivial
    (fun n _ _ => pk_le 64 64 (fun _ => h) (fun z => absurd z (by omega)))
    (fun n i _ hi _ hw => pk_le 64 i (fun z => absurd z (by omega)) (fun _ => dk_valueIn (nm_e (nm_e (nm_e (nm_r (nI_1 i) (hw () trivial)))))))
theorem dk_any14 {post : St2 → Prop} {J : Int64 → Int32 → Prop} {x v : Int32} {r0 : Int64} (h : J (dk_an1 x v w r0 64) (v + 1)) : ∃ n, wX_setAny_14 post J x v cc pc lv d w a1 a2 a3 a4 a5 a6 a7 a8 a9 a10 a11 a12 a13 a14 a15 a16 n r0 0 :=
  pk_loop (σ := Unit) (fun n i _ => wX_setAny_14 post J x v cc pc lv d w a1 a2 a3 a4 a5 a6 a7 a8 a9 a10 a11 a12 a13 a14 a15 a16 n (dk_an1 x v w r0 i) (nI i)) (fun _ _ => True) 64 0 () (by omega) trivial
    (fun n _ _ => pk_le 64 64 (fun _ => nm_e h) (fun z => absurd z (by omega)))
    (fun n i _ hi _ hw => pk_le 64 i (fun z => absurd z (by omega)) (fun _ => nm_e (nm_e (nm_r (nI_1 i) (hw () trivial)))))
theorem dk_setA {post : St2 → Prop} {x : Int32} (h : post (cc, pc, lv, d, dk_an x w 4, a1, a2, a3, a4, a5, a6, a7, a8, a9, a10, a11, a12, a13, a14, a15, a16)) : wpX_setAny post (cc, pc, lv, d, w, a1, a2, a3, a4, a5, a6, a7, a8, a9, a10, a11, a12, a13, a14, a15, a16) x :=
  pk_loop (σ := Unit) (fun n i _ => wX_setAny_5 post x cc pc lv d w a1 a2 a3 a4 a5 a6 a7 a8 a9 a10 a11 a12 a13 a14 a15 a16 n (dk_an x w i) (nI i)) (fun _ _ => True) 4 0 () (by omega) trivial
    (fun n _ _ => pk_le 4 4 (fun _ => h) (fun z => absurd z (by omega)))
    (fun n i _ hi _ hw => pk_le 4 i (fun z => absurd z (by omega)) (fun _ => dk_any14 (by rw [nI_1]; exact hw () trivial)))
theorem dk_w11 {post : St2 → Prop} {k m : Int32} (hx : k = 4 ∨ k = 5 → a3 0 = 0) (h : post (cc, pc, lv, d, dk_G (a1 0) k (a3 0) (a4 0) (a5 0) m w, a1, a2, a3, a4, a5, a6, a7, a8, a9, a10, a11, a12, a13, a14, a15, a16)) : wX_workOut_11 post 0 k m cc pc lv d w a1 a2 a3 a4 a5 a6 a7 a8 a9 a10 a11 a12 a13 a14 a15 a16 := by
  have I : vp_in 0 32 := pk_in 0 32 (by decide)
  have I2 : vp_in 0 24 := pk_in 0 24 (by decide)
  unfold wX_workOut_11
  unfold dk_G at h
  rw [sb_cl0]
  refine ⟨I, nm_e ?_⟩
  by_cases k1 : k = 1
  · rw [if_pos k1] at h
    refine br_t k1 ?_
    by_cases m0 : m = 0
    · rw [if_pos m0] at h
      exact br_t m0 h
    · rw [if_neg m0] at h
      exact br_f m0 h
  · rw [if_neg k1] at h
    refine br_f k1 ?_
    by_cases k4 : k = 4
    · rw [if_pos k4] at h
      refine br_t k4 ?_
      rw [hx (Or.inl k4), sb_cl0]
      exact ⟨I2, nm_e h⟩
    · rw [if_neg k4] at h
      refine br_f k4 ?_
      by_cases k5 : k = 5
      · rw [if_pos k5] at h
        refine br_t k5 ?_
        rw [hx (Or.inr k5), sb_cl0]
        refine ⟨I2, ?_⟩
        by_cases m0 : m = 0
        · rw [if_pos m0] at h
          exact br_t m0 (nm_e h)
        · rw [if_neg m0] at h
          exact br_f m0 ⟨I2, nm_e h⟩
      · rw [if_neg k5] at h
        refine br_f k5 ?_
        by_cases k2 : k = 2
        · rw [if_pos k2] at h
          exact br_t k2 ⟨I, I, dk_setV h⟩
        · rw [if_neg k2] at h
          refine br_f k2 ?_
          by_cases k3 : k = 3
          · rw [if_pos k3] at h
            exact br_t k3 (dk_setA h)
          · rw [if_neg k3] at h
            exact br_f k3 h
theorem dk_workOut {post : St2 → Prop} {k m : Int32} (hm : m = 0 ∨ m = 1) (hx : k = 4 ∨ k = 5 → a3 0 = 0) (h : post (cc, pc, lv, d, dk_G (a1 0) k (a3 0) (a4 0) (a5 0) m w, a1, a2, a3, a4, a5, a6, a7, a8, a9, a10, a11, a12, a13, a14, a15, a16)) : wpX_workOut post (cc, pc, lv, d, w, a1, a2, a3, a4, a5, a6, a7, a8, a9, a10, a11, a12, a13, a14, a15, a16) 0 k m := by
  unfold wpX_workOut
  rcases hm with rfl | rfl
  · exact br_t (by decide) (dk_w11 hx h)
  · exact br_f (by decide) (dk_w11 hx h)
theorem dk_step {post : St2 → Prop} {m : Int32} (hm : m = 0 ∨ m = 1) (h7 : a7 0 = 0) (h6 : ¬ 6 ≤ a2 0) (hx : a2 0 = 4 ∨ a2 0 = 5 → a3 0 = 0) (h : ∀ b8 : Nat → Int32, post (cc, pc, lv, 0, dk_G (a1 0) (a2 0) (a3 0) (a4 0) (a5 0) m w, a1, a2, a3, a4, a5, a6, a7, b8, a9, a10, a11, a12, a13, a14, a15, a16)) : wpX_step post (cc, pc, lv, 1, w, a1, a2, a3, a4, a5, a6, a7, a8, a9, a10, a11, a12, a13, a14, a15, a16) m := by
  have I : vp_in 0 32 := pk_in 0 32 (by decide)
  have I2 : vp_in 0 24 := pk_in 0 24 (by decide)
  unfold wpX_step
  refine nm_r (e' := (0 : Int32)) (by decide) ⟨I2, nm_r (e' := (0 : Int32)) (by rw [sb_cl0, h7]) ⟨I, nm_r (e' := a2 0) (by rw [sb_cl0]) ⟨I2, nm_e ⟨I2, I2, nm_e (br_f h6 (nm_r (e' := (0 : Int32)) (by decide) ?_))⟩⟩⟩⟩
  exact dk_workOut hm hx (h _)
theorem dk_m115 {post : Int64 → St2 → Prop} {g : Int64} {m x5 : Int32} {j : Nat} (hj : j < 64) (hm : m = 0 ∨ m = 1) (h7 : a7 0 = 0) (h6 : ¬ 6 ≤ a2 0) (hx : a2 0 = 4 ∨ a2 0 = 5 → a3 0 = 0)
    (h : ∀ b8 : Nat → Int32, post (dk_G (a1 0) (a2 0) (a3 0) (a4 0) (a5 0) m w) (cc, pc, lv, 0, dk_G (a1 0) (a2 0) (a3 0) (a4 0) (a5 0) m w, a1, a2, a3, a4, a5, a6, a7, b8, a9, a10, a11, a12, a13, upd a14 j x5.toInt16.toInt32, vp_updL a15 j g, vp_updL a16 j (dk_G (a1 0) (a2 0) (a3 0) (a4 0) (a5 0) m w))) : ∃ n, wX_map_115 post g m x5 (nI j) n cc pc lv 1 w a1 a2 a3 a4 a5 a6 a7 a8 a9 a10 a11 a12 a13 a14 a15 a16 := by
  have I : vp_in (nI j) 64 := pk_in j 64 hj
  have c : (nI j).toNatClampNeg = j := nI_clamp (by omega)
  refine ⟨0 + 1 + 1, br_f (by decide) (dk_step hm h7 h6 hx (fun b8 => br_t (by decide) ?_))⟩
  rw [c]
  exact ⟨I, nm_e ⟨I, nm_e ⟨I, nm_e (h b8)⟩⟩⟩
theorem dk_m88 {post : Int64 → St2 → Prop} {g : Int64} {m x5 x6 : Int32}
    (h : ∀ b12 : Nat → Int32, ∃ n, wX_map_115 post g m x5 x6 n cc pc lv 1 g a1 a2 a3 a4 a5 a6 (upd a7 0 (0 : Int32).toInt8.toInt32) (upd a8 0 0) (upd a9 0 (0 : Int32).toInt8.toInt32) (vp_updL a10 0 g) a11 b12 a13 a14 a15 a16) : wX_map_75 post 0 g m x5 x6 cc pc lv d w a1 a2 a3 a4 a5 a6 a7 a8 a9 a10 a11 a12 a13 a14 a15 a16 :=
  pk_loop (fun n i s => wX_map_88 post 0 g m x5 x6 cc pc lv 0 g n (nI i) a1 a2 a3 a4 a5 a6 a7 a8 a9 a10 a11 s a13 a14 a15 a16) (fun _ _ => True) 24 0 a12 (by omega) trivial
    (fun n s _ => pk_le 24 24 (fun _ => dk_enter0 (h s)) (fun z => absurd z (by omega)))
    (fun n i s hi _ hw => pk_le 24 i (fun z => absurd z (by omega)) (fun _ => ⟨pk_in i 24 hi, nm_e (nm_r (nI_1 i) (hw _ trivial))⟩))
/-- what the cache holds is right -/
def dk_C (F : Int32 → Int64 → Int64) (a14 : Nat → Int32) (a15 a16 : Nat → Int64) : Prop := ∀ j, j < 64 → ∀ m, (m = 0 ∨ m = 1) → a14 j = 1 + m → a16 j = F m (a15 j)
theorem dk_C_0 (F : Int32 → Int64 → Int64) : dk_C F (fun _ => 0) a15 a16 := by
  intro j _ m hm e
  rcases hm with rfl | rfl
  · exact absurd (show (0 : Int32) = 1 + 0 from e) (by decide)
  · exact absurd (show (0 : Int32) = 1 + 1 from e) (by decide)
theorem dk_C_put {F : Int32 → Int64 → Int64} (hC : dk_C F a14 a15 a16) {m : Int32} (hm : m = 0 ∨ m = 1) (j : Nat) (g : Int64) : dk_C F (upd a14 j (1 + m).toInt16.toInt32) (vp_updL a15 j g) (vp_updL a16 j (F m g)) := by
  intro i hi m' hm' e
  by_cases z : i = j
  · subst z
    rw [pk_us] at e
    rw [pk_uLs, pk_uLs]
    have mm : m = m' := by
      rcases hm with rfl | rfl
      · rcases hm' with rfl | rfl
        · rfl
        · exact absurd e (by decide)
      · rcases hm' with rfl | rfl
        · exact absurd e (by decide)
        · rfl
    rw [mm]
  · rw [pk_un z] at e
    rw [pk_uLn z, pk_uLn z]
    exact hC i hi m' hm' e
theorem dk_map {post : Int64 → St2 → Prop} {m : Int32} {g : Int64} (hm : m = 0 ∨ m = 1) (h6 : ¬ 6 ≤ a2 0) (hx : a2 0 = 4 ∨ a2 0 = 5 → a3 0 = 0) (hC : dk_C (dk_G (a1 0) (a2 0) (a3 0) (a4 0) (a5 0)) a14 a15 a16)
    (h : ∀ (d' : Int32) (w' : Int64) (b7 b8 b9 : Nat → Int32) (b10 : Nat → Int64) (b12 b14 : Nat → Int32) (b15 b16 : Nat → Int64), dk_C (dk_G (a1 0) (a2 0) (a3 0) (a4 0) (a5 0)) b14 b15 b16 → post (dk_G (a1 0) (a2 0) (a3 0) (a4 0) (a5 0) m g) (cc, pc, 1, d', w', a1, a2, a3, a4, a5, a6, b7, b8, b9, b10, a11, b12, a13, b14, b15, b16)) : wpX_map post (cc, pc, 1, d, w, a1, a2, a3, a4, a5, a6, a7, a8, a9, a10, a11, a12, a13, a14, a15, a16) 0 g m := by
  unfold wpX_map
  refine nm_r (e' := 1 + m) (by rw [show (1 : Int32) + 4 * 0 = 1 by decide]) (fun x6 e6 => ?_)
  have z : ∃ j, j < 64 ∧ x6 = nI j := by
    rw [e6]
    exact dk_slot _
  obtain ⟨j, hj, ej⟩ := z
  clear e6
  subst ej
  have I : vp_in (nI j) 64 := pk_in j 64 hj
  have c : (nI j).toNatClampNeg = j := nI_clamp (by omega)
  have g75 : wX_map_75 post 0 g m (1 + m) (nI j) cc pc 1 d w a1 a2 a3 a4 a5 a6 a7 a8 a9 a10 a11 a12 a13 a14 a15 a16 := dk_m88 (fun b12 => dk_m115 hj hm (by rw [pk_us]; decide) h6 hx (fun b8 => h _ _ _ _ _ _ _ _ _ _ (dk_C_put hC hm j g)))
  rw [c]
  refine br_t rfl ⟨I, br_c (fun e => ⟨I, br_c (fun e' => ⟨I, ?_⟩) (fun _ => g75)⟩) (fun _ => g75)⟩
  have q := hC j hj m hm e
  rw [e'] at q
  rw [q]
  exact h _ _ _ _ _ _ _ _ _ _ hC
theorem dk_endsOf {post : Int64 → St2 → Prop} {s : Int32} (h6 : ¬ 6 ≤ a2 0) (hx : a2 0 = 4 ∨ a2 0 = 5 → a3 0 = 0) (hC : dk_C (dk_G (a1 0) (a2 0) (a3 0) (a4 0) (a5 0)) a14 a15 a16)
    (h : ∀ (d' : Int32) (w' : Int64) (b7 b8 b9 : Nat → Int32) (b10 : Nat → Int64) (b12 b14 : Nat → Int32) (b15 b16 : Nat → Int64), dk_C (dk_G (a1 0) (a2 0) (a3 0) (a4 0) (a5 0)) b14 b15 b16 → post (dk_en (dk_G (a1 0) (a2 0) (a3 0) (a4 0) (a5 0) 0) s 64) (cc, pc, 1, d', w', a1, a2, a3, a4, a5, a6, b7, b8, b9, b10, a11, b12, a13, b14, b15, b16)) : wpX_endsOf post (cc, pc, 1, d, w, a1, a2, a3, a4, a5, a6, a7, a8, a9, a10, a11, a12, a13, a14, a15, a16) 0 s := by
  refine pk_loop (σ := Int32 × Int64 × (Nat → Int32) × (Nat → Int32) × (Nat → Int32) × (Nat → Int64) × (Nat → Int32) × (Nat → Int32) × (Nat → Int64) × (Nat → Int64))
    (fun n i q => wX_endsOf_5 post 0 s n (dk_en (dk_G (a1 0) (a2 0) (a3 0) (a4 0) (a5 0) 0) s i) (nI i) cc pc 1 q.1 q.2.1 a1 a2 a3 a4 a5 a6 q.2.2.1 q.2.2.2.1 q.2.2.2.2.1 q.2.2.2.2.2.1 a11 q.2.2.2.2.2.2.1 a13 q.2.2.2.2.2.2.2.1 q.2.2.2.2.2.2.2.2.1 q.2.2.2.2.2.2.2.2.2)
    (fun _ q => dk_C (dk_G (a1 0) (a2 0) (a3 0) (a4 0) (a5 0)) q.2.2.2.2.2.2.2.1 q.2.2.2.2.2.2.2.2.1 q.2.2.2.2.2.2.2.2.2) 64 0 (d, w, a7, a8, a9, a10, a12, a14, a15, a16) (by omega) hC
    (fun n q hq => pk_le 64 64 (fun _ => h _ _ _ _ _ _ _ _ _ _ hq) (fun z => absurd z (by omega)))
    (fun n i q hi hq hw => pk_le 64 i (fun z => absurd z (by omega)) (fun _ => dk_map (Or.inl rfl) h6 hx hq (fun d' w' b7 b8 b9 b10 b12 b14 b15 b16 hC' => ?_)))
  have t := hw (d', w', b7, b8, b9, b10, b12, b14, b15, b16) hC'
  refine br_c (fun e => ?_) (fun e => ?_)
  · have e1 : dk_en (dk_G (a1 0) (a2 0) (a3 0) (a4 0) (a5 0) 0) s (i + 1) = dk_en (dk_G (a1 0) (a2 0) (a3 0) (a4 0) (a5 0) 0) s i := if_pos e
    rw [e1] at t
    exact nm_r (nI_1 i) t
  · have e1 : dk_en (dk_G (a1 0) (a2 0) (a3 0) (a4 0) (a5 0) 0) s (i + 1) = dk_en (dk_G (a1 0) (a2 0) (a3 0) (a4 0) (a5 0) 0) s i ||| dk_1 i := if_neg e
    rw [e1] at t
    exact nm_e (nm_r (nI_1 i) t)
theorem dk_ones5 {post : Int32 → Prop} : ∀ (c i : Nat) (r : Int64), dk_on c r = true → post (nI (i + c)) → wX_onesIn_5 post cc pc lv d w a1 a2 a3 a4 a5 a6 a7 a8 a9 a10 a11 a12 a13 a14 a15 a16 (c + 1) (nI i) r := by
  intro c
  induction c with
  | zero =>
    intro i r hr h
    exact br_t (of_decide_eq_true hr) h
  | succ c ih =>
    intro i r hr h
    have hr' : (!(decide (r = 0)) && dk_on c (r &&& (r - 1))) = true := hr
    rw [Bool.and_eq_true] at hr'
    have n : ¬ r = 0 := by
      intro e
      rw [decide_eq_true e] at hr'
      exact absurd hr'.1 (by decide)
    exact br_f n (nm_e (nm_r (nI_1 i) (ih (i + 1) _ hr'.2 (by rw [show i + 1 + c = i + (c + 1) by omega]; exact h))))
theorem dk_ones {post : Int32 → Prop} {c : Nat} {r : Int64} (hr : dk_on c r = true) (h : post (nI c)) : wpX_onesIn post (cc, pc, lv, d, w, a1, a2, a3, a4, a5, a6, a7, a8, a9, a10, a11, a12, a13, a14, a15, a16) r :=
  ⟨c + 1, dk_ones5 c 0 r hr (by rw [Nat.zero_add]; exact h)⟩
theorem dk_lowest {post : Int32 → Prop} {r : Int64} {e : Nat} (he : e < 64) (hb : dk_b r e = true) (hl : ∀ i, i < e → dk_b r i = false) (h : post (nI e)) : wpX_lowestIn post (cc, pc, lv, d, w, a1, a2, a3, a4, a5, a6, a7, a8, a9, a10, a11, a12, a13, a14, a15, a16) r :=
  pk_loop (σ := Unit) (fun n i _ => wX_lowestIn_2 post r cc pc lv d w a1 a2 a3 a4 a5 a6 a7 a8 a9 a10 a11 a12 a13 a14 a15 a16 n (nI i)) (fun _ _ => True) e 0 () (by omega) trivial
    (fun n _ _ => br_f (fun z => absurd ((dk_t0 he).mp z) (by rw [hb]; decide)) h)
    (fun n i _ hi _ hw => br_t ((dk_t0 (by omega)).mpr (hl i hi)) (nm_r (nI_1 i) (hw () trivial)))
end
end
section
/-! ===== ends, end, is: with a program and a state, and without ===== -/
section
variable {cc pc lv d : Int32} {w : Int64} {a1 a10 a11 a13 a15 a16 : Nat → Int64} {a2 a3 a4 a5 a6 a7 a8 a9 a12 a14 : Nat → Int32}
theorem dk_ends {post : Int32 → St2 → Prop} {j c e : Nat} (hj : j < 64) (h6 : ¬ 6 ≤ a2 0) (hx : a2 0 = 4 ∨ a2 0 = 5 → a3 0 = 0) (hC : dk_C (dk_G (a1 0) (a2 0) (a3 0) (a4 0) (a5 0)) a14 a15 a16) (hE : dk_E (dk_en (dk_G (a1 0) (a2 0) (a3 0) (a4 0) (a5 0) 0) (nI j) 64) c e)
    (h : ∀ (d' : Int32) (w' : Int64) (b7 b8 b9 : Nat → Int32) (b10 : Nat → Int64) (b12 b14 : Nat → Int32) (b15 b16 : Nat → Int64), dk_C (dk_G (a1 0) (a2 0) (a3 0) (a4 0) (a5 0)) b14 b15 b16 → post (nI c) (cc, 1, 1, d', w', a1, a2, a3, a4, a5, a6, b7, b8, b9, b10, a11, b12, a13, b14, b15, b16)) : wpX_ends post (cc, 1, 1, d, w, a1, a2, a3, a4, a5, a6, a7, a8, a9, a10, a11, a12, a13, a14, a15, a16) 0 (nI j) := by
  unfold wpX_ends
  refine dk_isProg (fun r hr => dk_br hr (fun n => absurd ⟨by decide, by decide⟩ n) (fun _ => br_f (nI_pos (by omega)) (br_t (nI_lt (b := 64) hj (by decide)) (dk_endsOf h6 hx hC (fun d' w' b7 b8 b9 b10 b12 b14 b15 b16 hC' => ?_)))))
  exact dk_ones hE.1 (h d' w' b7 b8 b9 b10 b12 b14 b15 b16 hC')
theorem dk_end {post : Int32 → St2 → Prop} {j c e : Nat} (hj : j < 64) (h6 : ¬ 6 ≤ a2 0) (hx : a2 0 = 4 ∨ a2 0 = 5 → a3 0 = 0) (hC : dk_C (dk_G (a1 0) (a2 0) (a3 0) (a4 0) (a5 0)) a14 a15 a16) (hE : dk_E (dk_en (dk_G (a1 0) (a2 0) (a3 0) (a4 0) (a5 0) 0) (nI j) 64) c e)
    (h : ∀ (d' : Int32) (w' : Int64) (b7 b8 b9 : Nat → Int32) (b10 : Nat → Int64) (b12 b14 : Nat → Int32) (b15 b16 : Nat → Int64), dk_C (dk_G (a1 0) (a2 0) (a3 0) (a4 0) (a5 0)) b14 b15 b16 → post (if c = 0 then -3 else nI e) (cc, 1, 1, d', w', a1, a2, a3, a4, a5, a6, b7, b8, b9, b10, a11, b12, a13, b14, b15, b16)) : wpX_end post (cc, 1, 1, d, w, a1, a2, a3, a4, a5, a6, a7, a8, a9, a10, a11, a12, a13, a14, a15, a16) 0 (nI j) 0 := by
  unfold wpX_end
  refine dk_isProg (fun r hr => dk_br hr (fun n => absurd ⟨by decide, by decide⟩ n) (fun _ => br_f (nI_pos (by omega)) (br_t (nI_lt (b := 64) hj (by decide)) (dk_endsOf h6 hx hC (fun d' w' b7 b8 b9 b10 b12 b14 b15 b16 hC' => ?_)))))
  have t := h d' w' b7 b8 b9 b10 b12 b14 b15 b16 hC'
  obtain ⟨q1, q2, q3⟩ := hE
  refine br_f (by decide) (dk_ones q1 ?_)
  by_cases c0 : c = 0
  · rw [if_pos c0] at t
    subst c0
    exact br_f (by decide) t
  · rw [if_neg c0] at t
    obtain ⟨g1, g2, g3⟩ := q3 c0
    exact br_t (nI_lt (a := 0) (by omega) (by omega)) ⟨0 + 1, br_t (by decide) (dk_lowest g1 g2 g3 t)⟩
theorem dk_wis {post : Int32 → St2 → Prop} {j : Nat} (hj : j < 64) (h6 : ¬ 6 ≤ a2 0) (hx : a2 0 = 4 ∨ a2 0 = 5 → a3 0 = 0) (hC : dk_C (dk_G (a1 0) (a2 0) (a3 0) (a4 0) (a5 0)) a14 a15 a16)
    (h : ∀ (r : Int32) (u : St2), dk_is (dk_b (dk_G (a1 0) (a2 0) (a3 0) (a4 0) (a5 0) 1 0) j = true) r → post r u) : wpX_is post (cc, 1, 1, d, w, a1, a2, a3, a4, a5, a6, a7, a8, a9, a10, a11, a12, a13, a14, a15, a16) 3 0 0 (nI j) := by
  unfold wpX_is wpX_canAsk
  refine br_f (by decide) (br_f (by decide) (dk_isProg (fun r hr => dk_br hr (fun n => absurd ⟨by decide, by decide⟩ n) (fun _ => br_t (by decide) ?_))))
  refine br_f (by decide) (br_f (nI_pos (by omega)) (br_t (nI_lt (b := 64) hj (by decide)) ?_))
  unfold wpX_ofKind
  refine br_t (by decide) (br_f (by decide) (br_f (by decide) (br_t rfl ?_)))
  unfold wX_ofKind_84
  refine dk_map (Or.inr rfl) h6 hx hC (fun d' w' b7 b8 b9 b10 b12 b14 b15 b16 hC' => ?_)
  refine br_c (fun e => h 0 _ (dk_is0 ?_)) (fun e => h 1 _ (dk_is1 ?_))
  · rw [(dk_t0 hj).mp e]
    decide
  · have n : ¬ dk_b (dk_G (a1 0) (a2 0) (a3 0) (a4 0) (a5 0) 1 0) j = false := fun z => e ((dk_t0 hj).mpr z)
    rw [Bool.not_eq_false] at n
    exact n
/-- no program, or no state -/
theorem dk_ends_b {post : Int32 → St2 → Prop} {s : Int32} (hb : pc = 0 ∨ ¬ (¬ s < 0 ∧ ¬ 63 < s)) (h : post (-1) (cc, pc, lv, d, w, a1, a2, a3, a4, a5, a6, a7, a8, a9, a10, a11, a12, a13, a14, a15, a16)) : wpX_ends post (cc, pc, lv, d, w, a1, a2, a3, a4, a5, a6, a7, a8, a9, a10, a11, a12, a13, a14, a15, a16) 0 s := by
  unfold wpX_ends
  refine dk_isProg (fun r hr => dk_br hr (fun n => h) (fun p => br_c (fun _ => h) (fun a => br_c (fun b => ?_) (fun _ => h))))
  rcases hb with rfl | hb
  · exact absurd (show (0 : Int32) ≤ 0 by decide) p.2
  · exact absurd ⟨a, dk_64n.mp b⟩ hb
theorem dk_end_b {post : Int32 → St2 → Prop} {s : Int32} (hb : pc = 0 ∨ ¬ (¬ s < 0 ∧ ¬ 63 < s)) (h : post (-1) (cc, pc, lv, d, w, a1, a2, a3, a4, a5, a6, a7, a8, a9, a10, a11, a12, a13, a14, a15, a16)) : wpX_end post (cc, pc, lv, d, w, a1, a2, a3, a4, a5, a6, a7, a8, a9, a10, a11, a12, a13, a14, a15, a16) 0 s 0 := by
  unfold wpX_end
  refine dk_isProg (fun r hr => dk_br hr (fun n => h) (fun p => br_c (fun _ => h) (fun a => br_c (fun b => ?_) (fun _ => h))))
  rcases hb with rfl | hb
  · exact absurd (show (0 : Int32) ≤ 0 by decide) p.2
  · exact absurd ⟨a, dk_64n.mp b⟩ hb
theorem dk_wis_b {post : Int32 → St2 → Prop} {s : Int32} (hb : pc = 0 ∨ ¬ (¬ s < 0 ∧ ¬ 63 < s)) (h : post 0 (cc, pc, lv, d, w, a1, a2, a3, a4, a5, a6, a7, a8, a9, a10, a11, a12, a13, a14, a15, a16)) : wpX_is post (cc, pc, lv, d, w, a1, a2, a3, a4, a5, a6, a7, a8, a9, a10, a11, a12, a13, a14, a15, a16) 3 0 0 s := by
  unfold wpX_is wpX_canAsk
  refine br_f (by decide) (br_f (by decide) (dk_isProg (fun r hr => dk_br hr (fun n => br_t rfl h) (fun p => br_t (by decide) (br_f (by decide) (br_c (fun _ => h) (fun a => br_c (fun b => ?_) (fun _ => h))))))))
  rcases hb with rfl | hb
  · exact absurd (show (0 : Int32) ≤ 0 by decide) p.2
  · exact absurd ⟨a, dk_64n.mp b⟩ hb
end
end
section
/-! ===== the law's tail: ends, end, is ===== -/
section
variable {cc pc lv d : Int32} {w : Int64} {a1 a10 a11 a13 a15 a16 : Nat → Int64} {a2 a3 a4 a5 a6 a7 a8 a9 a12 a14 : Nat → Int32}
theorem dk_is_eq {P Q : Prop} {u v : Int32} (h : dk_is P u) (h' : dk_is Q v) (e : P ↔ Q) : u = v := by
  rcases h with ⟨p, rfl⟩ | ⟨p, rfl⟩
  · rcases h' with ⟨q, rfl⟩ | ⟨q, rfl⟩
    · rfl
    · exact absurd (e.mp p) q
  · rcases h' with ⟨q, rfl⟩ | ⟨q, rfl⟩
    · exact absurd (e.mpr q) p
    · rfl
theorem dk_is_of {P Q : Prop} {v : Int32} (h : dk_is P v) (e : P ↔ Q) : dk_is Q v := by
  rcases h with ⟨p, rfl⟩ | ⟨p, rfl⟩
  · exact dk_is1 (e.mp p)
  · exact dk_is0 (fun q => p (e.mpr q))
theorem dk_is_n {P : Prop} {v : Int32} (h : dk_is P v) (p : ¬ P) : v = 0 := by
  rcases h with ⟨q, rfl⟩ | ⟨_, rfl⟩
  · exact absurd q p
  · rfl
theorem dk_is_y {P : Prop} {v : Int32} (h : dk_is P v) (p : P) : v = 1 := by
  rcases h with ⟨_, rfl⟩ | ⟨q, rfl⟩
  · rfl
  · exact absurd p q
theorem dk_is_iff {P : Prop} {v : Int32} (h : dk_is P v) : ¬ v = 0 ↔ P := by
  rcases h with ⟨q, rfl⟩ | ⟨q, rfl⟩
  · exact ⟨fun _ => q, fun _ => by decide⟩
  · exact ⟨fun z => absurd rfl z, fun z => absurd z q⟩
theorem dk_fin {post : Int32 → St0 → Prop} {mc ms kc ks : Nat} {so s x9 x12 r : Int32} (h1 : post 1 ()) (hr : dk_is (¬ x12 = 0 ∧ (¬ s < 0 ∧ ¬ 63 < s) ∧ (so = 1 ∨ (so = 5 ∧ x9 = 0))) r) :
    (x12 = 0 → wL_lawOf_550 post mc ms r kc ks) ∧ (¬ x12 = 0 → wpL_in (fun q => (((q = 0 → (wL_lawOf_550 post mc ms r kc ks)) ∧ (¬ q = 0 → (((so = 1 → (wL_lawOf_546 post mc ms r kc ks)) ∧ (¬ so = 1 → (((so = 5 → (((x9 = 0 → (wL_lawOf_546 post mc ms r kc ks)) ∧ (¬ x9 = 0 → (wL_lawOf_550 post mc ms r kc ks))))) ∧ (¬ so = 5 → (wL_lawOf_550 post mc ms r kc ks))))))))))) () s 0 63) := by
  have g0 : ¬ (¬ x12 = 0 ∧ (¬ s < 0 ∧ ¬ 63 < s) ∧ (so = 1 ∨ (so = 5 ∧ x9 = 0))) → wL_lawOf_550 post mc ms r kc ks := fun n => br_t (dk_is_n hr n) h1
  have g1 : (¬ x12 = 0 ∧ (¬ s < 0 ∧ ¬ 63 < s) ∧ (so = 1 ∨ (so = 5 ∧ x9 = 0))) → wL_lawOf_546 post mc ms r kc ks := fun n => br_t (dk_is_y hr n) h1
  exact br_c (fun a => g0 (fun t => t.1 a)) (fun a => dk_in (fun q hq => dk_br hq (fun n => g0 (fun t => n t.2.1)) (fun p => br_c (fun b => g1 ⟨a, p, Or.inl b⟩) (fun b => br_c (fun c => br_c (fun d => g1 ⟨a, p, Or.inr ⟨c, d⟩⟩) (fun d => g0 (fun t => t.2.2.elim b (fun t => d t.2)))) (fun c => g0 (fun t => t.2.2.elim b (fun t => c t.1)))))))
theorem dk_500_b {post : Int32 → St0 → Prop} {mc ms kc ks : Nat} {so s x9 x12 z0 z1 : Int32} (h1 : post 1 ()) (hb : (pc = 0 ∧ x12 = 0) ∨ ¬ (¬ s < 0 ∧ ¬ 63 < s)) (hz : z1 = z0) : wL_lawOf_500 post mc ms so s x9 x12 z0 z1 kc ks cc pc lv d w a1 a2 a3 a4 a5 a6 a7 a8 a9 a10 a11 a12 a13 a14 a15 a16 := by
  unfold wL_lawOf_500
  refine br_t hz (dk_wis_b (hb.imp And.left id) (dk_fin h1 (dk_is0 (fun t => ?_))))
  rcases hb with hb | hb
  · exact t.1 hb.2
  · exact hb t.2.1
theorem dk_454_b {post : Int32 → St0 → Prop} {mc ms kc ks : Nat} {so s x9 x12 x13 x14 : Int32} (h1 : post 1 ()) (hb : (pc = 0 ∧ x12 = 0) ∨ ¬ (¬ s < 0 ∧ ¬ 63 < s)) : wL_lawOf_453 post mc ms so s x9 x12 x13 x14 (-1) kc ks cc pc lv d w a1 a2 a3 a4 a5 a6 a7 a8 a9 a10 a11 a12 a13 a14 a15 a16 := by
  have g : wL_lawOf_484 post mc ms so s x9 x12 (-1) kc ks cc pc lv d w a1 a2 a3 a4 a5 a6 a7 a8 a9 a10 a11 a12 a13 a14 a15 a16 := dk_500_b h1 hb rfl
  unfold wL_lawOf_453 wL_lawOf_454
  refine br_t rfl (dk_end_b (hb.imp And.left id) (br_c (fun a => g) (fun a => dk_in (fun q hq => dk_br hq (fun _ => g) (fun p => ?_)))))
  rcases hb with hb | hb
  · exact absurd hb.2 a
  · exact absurd p hb
theorem dk_419_b {post : Int32 → St0 → Prop} {mc ms kc ks : Nat} {so s x9 x12 x13 x14 z0 z1 : Int32} (h1 : post 1 ()) (hb : (pc = 0 ∧ x12 = 0) ∨ ¬ (¬ s < 0 ∧ ¬ 63 < s)) (hz : z1 = z0) : wL_lawOf_419 post mc ms so s x9 x12 x13 x14 z0 z1 kc ks cc pc lv d w a1 a2 a3 a4 a5 a6 a7 a8 a9 a10 a11 a12 a13 a14 a15 a16 := by
  have g : wL_lawOf_453 post mc ms so s x9 x12 x13 x14 (-1) kc ks cc pc lv d w a1 a2 a3 a4 a5 a6 a7 a8 a9 a10 a11 a12 a13 a14 a15 a16 := dk_454_b h1 hb
  unfold wL_lawOf_419
  refine br_t hz (dk_ends_b (hb.imp And.left id) (br_c (fun a => g) (fun a => dk_in (fun q hq => dk_br hq (fun _ => g) (fun p => ?_)))))
  rcases hb with hb | hb
  · exact absurd hb.2 a
  · exact absurd p hb
theorem dk_500_g {post : Int32 → St0 → Prop} {mc ms kc ks : Nat} {so x9 x12 z0 z1 : Int32} {j : Nat} (h1 : post 1 ()) (hj : j < 64) (h12 : ¬ x12 = 0) (h6 : ¬ 6 ≤ a2 0) (hx : a2 0 = 4 ∨ a2 0 = 5 → a3 0 = 0) (hC : dk_C (dk_G (a1 0) (a2 0) (a3 0) (a4 0) (a5 0)) a14 a15 a16)
    (hf : dk_b (dk_G (a1 0) (a2 0) (a3 0) (a4 0) (a5 0) 1 0) j = true ↔ (so = 1 ∨ (so = 5 ∧ x9 = 0))) (hz : z1 = z0) : wL_lawOf_500 post mc ms so (nI j) x9 x12 z0 z1 kc ks cc 1 1 d w a1 a2 a3 a4 a5 a6 a7 a8 a9 a10 a11 a12 a13 a14 a15 a16 := by
  have ri : ¬ nI j < 0 ∧ ¬ 63 < nI j := ⟨nI_pos (by omega), nI_nlt (b := j) (a := 63) (by omega) (by decide)⟩
  unfold wL_lawOf_500
  exact br_t hz (dk_wis hj h6 hx hC (fun r u hr => dk_fin h1 (dk_is_of hr ⟨fun t => ⟨h12, ri, hf.mp t⟩, fun t => hf.mpr t.2.2⟩)))
theorem dk_419_g {post : Int32 → St0 → Prop} {mc ms kc ks : Nat} {so x9 x12 x13 x14 z0 z1 : Int32} {j c e : Nat} (h1 : post 1 ()) (hj : j < 64) (h12 : ¬ x12 = 0) (h6 : ¬ 6 ≤ a2 0) (hx : a2 0 = 4 ∨ a2 0 = 5 → a3 0 = 0) (hC : dk_C (dk_G (a1 0) (a2 0) (a3 0) (a4 0) (a5 0)) a14 a15 a16)
    (hE : dk_E (dk_en (dk_G (a1 0) (a2 0) (a3 0) (a4 0) (a5 0) 0) (nI j) 64) c e) (h13 : x13 = nI c) (h14 : c ≠ 0 → x14 = nI e)
    (hf : dk_b (dk_G (a1 0) (a2 0) (a3 0) (a4 0) (a5 0) 1 0) j = true ↔ (so = 1 ∨ (so = 5 ∧ x9 = 0))) (hz : z1 = z0) : wL_lawOf_419 post mc ms so (nI j) x9 x12 x13 x14 z0 z1 kc ks cc 1 1 d w a1 a2 a3 a4 a5 a6 a7 a8 a9 a10 a11 a12 a13 a14 a15 a16 := by
  have ri : ¬ nI j < 0 ∧ ¬ 63 < nI j := ⟨nI_pos (by omega), nI_nlt (b := j) (a := 63) (by omega) (by decide)⟩
  have c4 : c ≤ 4 := hE.2.1
  unfold wL_lawOf_419
  refine br_t hz (dk_ends hj h6 hx hC hE (fun d' w' b7 b8 b9 b10 b12 b14 b15 b16 hC' => br_f h12 (dk_in (fun q hq => dk_br hq (fun n => absurd ri n) (fun _ => ?_)))))
  unfold wL_lawOf_454
  refine br_t h13.symm (dk_end hj h6 hx hC' hE (fun d' w' b7 b8 b9 b10 b12 b14 b15 b16 hC'' => br_f h12 (dk_in (fun q hq => dk_br hq (fun n => absurd ri n) (fun _ => ?_)))))
  by_cases c0 : c = 0
  · rw [if_pos c0]
    refine br_t (by rw [h13, c0]; rfl) (dk_500_g h1 hj h12 h6 hx hC'' hf rfl)
  · rw [if_neg c0]
    refine br_f (by rw [h13]; exact nI_ne0 (by omega) (by omega)) (dk_500_g h1 hj h12 h6 hx hC'' hf (h14 c0).symm)
end
end
section
/-! ===== the law's head: what it expects ===== -/
def dk_l8 (v s : Int32) : Int32 := if (¬ v < 0 ∧ ¬ 2 < v) ∧ (¬ s < 0 ∧ ¬ 63 < s) then (s >>> ((2 * v) &&& 31)) &&& 3 else 0
def dk_l13 (so o h : Int32) : Int32 := if so = 1 then 0 else if o = 0 then (if so = 3 then 4 else 1) else if h = 0 then 0 else (if so = 3 then 4 else 1)
def dk_l14 (x y so z s b : Int32) : Int32 := if so = 2 then (if y = 3 then dk_to x z s else dk_to x ((b + z) &&& 3) s) else if so = 3 then s &&& (((3 : Int32) <<< ((2 * x) &&& 31)) ^^^ (-1)) else s
section
variable {post : Int32 → St0 → Prop} {mc ms kc ks : Nat} {k x y so z s : Int32}
theorem dk_h40 (h : ∀ f, dk_is (dk_first k x y) f → wL_lawOf_40 post mc ms k x y so z s f 0 0) : wpL_lawOf post mc ms () k x y so z s := by
  have g39 : ¬ dk_first k x y → wL_lawOf_39 post mc ms k x y so z s 0 0 := fun n => h 0 (dk_is0 n)
  have g9 : k = 0 ∨ k = 1 → wL_lawOf_9 post mc ms k x y so z s 0 0 := by
    intro hk
    unfold wL_lawOf_9
    refine dk_in (fun r hr => dk_br hr (fun n => g39 (fun t => n t.2.1)) (fun p => br_c (fun k0 => ?_) (fun k0 => ?_)))
    · unfold wL_lawOf_29
      refine dk_in (fun r hr => dk_br hr (fun n => g39 (fun t => n ⟨t.2.2.1, ?_⟩)) (fun q => h 1 (dk_is1 ⟨hk, p, q.1, ?_⟩)))
      · have e := t.2.2.2
        rw [if_pos k0] at e
        exact e
      · rw [if_pos k0]
        exact q.2
    · unfold wL_lawOf_29
      refine dk_in (fun r hr => dk_br hr (fun n => g39 (fun t => n ⟨t.2.2.1, ?_⟩)) (fun q => h 1 (dk_is1 ⟨hk, p, q.1, ?_⟩)))
      · have e := t.2.2.2
        rw [if_neg k0] at e
        exact e
      · rw [if_neg k0]
        exact q.2
  unfold wpL_lawOf
  exact br_c (fun a => g9 (Or.inl a)) (fun a => br_c (fun b => g9 (Or.inr b)) (fun b => g39 (fun t => t.1.elim a b)))
theorem dk_h74 {f : Int32} (h : wL_lawOf_74 post mc ms k x y so z s f (dk_l8 x s) kc ks) : wL_lawOf_40 post mc ms k x y so z s f kc ks := by
  unfold wL_lawOf_40
  refine dk_in (fun r hr => dk_br hr (fun n => ?_) (fun p => dk_in (fun r hr => dk_br hr (fun n => ?_) (fun q => ?_))))
  · unfold dk_l8 at h
    rw [if_neg (fun t => n t.1)] at h
    exact h
  · unfold dk_l8 at h
    rw [if_neg (fun t => n t.2)] at h
    exact h
  · unfold dk_l8 at h
    rw [if_pos ⟨p, q⟩] at h
    exact h
theorem dk_h108 {f a : Int32} (h : wL_lawOf_108 post mc ms k x y so z s f a (dk_l8 y s) kc ks) : wL_lawOf_74 post mc ms k x y so z s f a kc ks := by
  unfold wL_lawOf_74
  refine dk_in (fun r hr => dk_br hr (fun n => ?_) (fun p => dk_in (fun r hr => dk_br hr (fun n => ?_) (fun q => ?_))))
  · unfold dk_l8 at h
    rw [if_neg (fun t => n t.1)] at h
    exact h
  · unfold dk_l8 at h
    rw [if_neg (fun t => n t.2)] at h
    exact h
  · unfold dk_l8 at h
    rw [if_pos ⟨p, q⟩] at h
    exact h
theorem dk_h151 {f a b : Int32} (h : ∀ h9, dk_is (¬ f = 0 ∧ (¬ s < 0 ∧ ¬ 63 < s) ∧ (k = 0 → a = y) ∧ (¬ k = 0 → ¬ b < a)) h9 → wL_lawOf_151 post mc ms k x y so z s f b h9 kc ks) : wL_lawOf_108 post mc ms k x y so z s f a b kc ks := by
  have g0 : ¬ (¬ f = 0 ∧ (¬ s < 0 ∧ ¬ 63 < s) ∧ (k = 0 → a = y) ∧ (¬ k = 0 → ¬ b < a)) → wL_lawOf_150 post mc ms k x y so z s f b kc ks := fun n => h 0 (dk_is0 n)
  have g1 : (¬ f = 0 ∧ (¬ s < 0 ∧ ¬ 63 < s) ∧ (k = 0 → a = y) ∧ (¬ k = 0 → ¬ b < a)) → wL_lawOf_146 post mc ms k x y so z s f b kc ks := fun n => h 1 (dk_is1 n)
  unfold wL_lawOf_108
  exact br_c (fun f0 => g0 (fun t => t.1 f0)) (fun f0 => dk_in (fun r hr => dk_br hr (fun n => g0 (fun t => n t.2.1)) (fun p => br_c (fun k0 => br_c (fun e => g1 ⟨f0, p, fun _ => e, fun n => absurd k0 n⟩) (fun e => g0 (fun t => e (t.2.2.1 k0)))) (fun k0 => br_c (fun e => g0 (fun t => t.2.2.2 k0 e)) (fun e => g1 ⟨f0, p, fun n => absurd n k0, fun _ => e⟩)))))
theorem dk_h191 {f b h9 : Int32} (h : ∀ t2, dk_is (so = 2 ∧ (¬ x < 0 ∧ ¬ 2 < x) ∧ (¬ y < 0 ∧ ¬ 3 < y) ∧ (¬ z < 0 ∧ ¬ 3 < z)) t2 → wL_lawOf_191 post mc ms k x y so z s f b h9 t2 kc ks) : wL_lawOf_151 post mc ms k x y so z s f b h9 kc ks := by
  have g0 : ¬ (so = 2 ∧ (¬ x < 0 ∧ ¬ 2 < x) ∧ (¬ y < 0 ∧ ¬ 3 < y) ∧ (¬ z < 0 ∧ ¬ 3 < z)) → wL_lawOf_190 post mc ms k x y so z s f b h9 kc ks := fun n => h 0 (dk_is0 n)
  unfold wL_lawOf_151
  exact br_c (fun e => dk_in (fun r hr => dk_br hr (fun n => g0 (fun t => n t.2.1)) (fun p => dk_in (fun r hr => dk_br hr (fun n => g0 (fun t => n t.2.2.1)) (fun q => dk_in (fun r hr => dk_br hr (fun n => g0 (fun t => n t.2.2.2)) (fun v => h 1 (dk_is1 ⟨e, p, q, v⟩)))))))) (fun e => g0 (fun t => e t.1))
theorem dk_h217 {f b h9 t2 : Int32} (h : ∀ o, dk_is ((so = 4 ∨ so = 5) ∧ x = 0 ∧ ¬ f = 0) o → wL_lawOf_217 post mc ms k x y so z s f b h9 t2 o kc ks) : wL_lawOf_191 post mc ms k x y so z s f b h9 t2 kc ks := by
  have g0 : ¬ ((so = 4 ∨ so = 5) ∧ x = 0 ∧ ¬ f = 0) → wL_lawOf_216 post mc ms k x y so z s f b h9 t2 kc ks := fun n => h 0 (dk_is0 n)
  have g2 : so = 4 ∨ so = 5 → wL_lawOf_203 post mc ms k x y so z s f b h9 t2 kc ks := fun e => br_c (fun x0 => br_c (fun f0 => g0 (fun t => t.2.2 f0)) (fun f0 => h 1 (dk_is1 ⟨e, x0, f0⟩))) (fun x0 => g0 (fun t => x0 t.2.1))
  unfold wL_lawOf_191
  exact br_c (fun e => g2 (Or.inl e)) (fun e => br_c (fun e' => g2 (Or.inr e')) (fun e' => g0 (fun t => t.1.elim e e')))
theorem dk_h257 {f b h9 t2 o : Int32} (h : ∀ md, dk_is ((¬ so < 0 ∧ ¬ 1 < so) ∨ ¬ t2 = 0 ∨ (so = 3 ∧ (¬ x < 0 ∧ ¬ 2 < x)) ∨ ¬ o = 0) md → wL_lawOf_257 post mc ms k x y so z s f b h9 o md kc ks) : wL_lawOf_217 post mc ms k x y so z s f b h9 t2 o kc ks := by
  have g1 : ((¬ so < 0 ∧ ¬ 1 < so) ∨ ¬ t2 = 0 ∨ (so = 3 ∧ (¬ x < 0 ∧ ¬ 2 < x)) ∨ ¬ o = 0) → wL_lawOf_252 post mc ms k x y so z s f b h9 o kc ks := fun n => h 1 (dk_is1 n)
  have g7 : ¬ (¬ so < 0 ∧ ¬ 1 < so) → t2 = 0 → ¬ (so = 3 ∧ (¬ x < 0 ∧ ¬ 2 < x)) → wL_lawOf_247 post mc ms k x y so z s f b h9 o kc ks := fun n1 n2 n3 => br_c (fun o0 => h 0 (dk_is0 (fun t => t.elim n1 (fun t => t.elim (fun t => t n2) (fun t => t.elim n3 (fun t => t o0)))))) (fun o0 => g1 (Or.inr (Or.inr (Or.inr o0))))
  unfold wL_lawOf_217
  exact dk_in (fun r hr => dk_br hr (fun n => br_c (fun t0 => br_c (fun e3 => dk_in (fun r hr => dk_br hr (fun q => g7 n t0 (fun t => q t.2)) (fun q => g1 (Or.inr (Or.inr (Or.inl ⟨e3, q⟩)))))) (fun e3 => g7 n t0 (fun t => e3 t.1))) (fun t0 => g1 (Or.inr (Or.inl t0)))) (fun p => g1 (Or.inl p)))
theorem dk_h288 {f b h9 o md : Int32} (h : wL_lawOf_288 post mc ms k x y so z s f b h9 md (dk_l13 so o h9) kc ks) : wL_lawOf_257 post mc ms k x y so z s f b h9 o md kc ks := by
  have g : (dk_l13 so o h9 = if so = 3 then 4 else 1) → wL_lawOf_278 post mc ms k x y so z s f b h9 md kc ks := by
    intro e
    rw [e] at h
    by_cases e3 : so = 3
    · rw [if_pos e3] at h
      exact br_t e3 h
    · rw [if_neg e3] at h
      exact br_f e3 h
  have g0 : dk_l13 so o h9 = 0 → wL_lawOf_274 post mc ms k x y so z s f b h9 md kc ks := by
    intro e
    rw [e] at h
    exact h
  unfold wL_lawOf_257
  refine br_c (fun e => g0 ?_) (fun e => br_c (fun o0 => g ?_) (fun o0 => br_c (fun z0 => g0 ?_) (fun z0 => g ?_)))
  · unfold dk_l13
    rw [if_pos e]
  · unfold dk_l13
    rw [if_neg e, if_pos o0]
  · unfold dk_l13
    rw [if_neg e, if_neg o0, if_pos z0]
  · unfold dk_l13
    rw [if_neg e, if_neg o0, if_neg z0]
theorem dk_h350 {f b h9 md e13 : Int32} (h : wL_lawOf_350 post mc ms k x y so z s f h9 md e13 (dk_l14 x y so z s b) kc ks) : wL_lawOf_288 post mc ms k x y so z s f b h9 md e13 kc ks := by
  unfold wL_lawOf_288
  unfold dk_l14 at h
  by_cases e2 : so = 2
  · rw [if_pos e2] at h
    refine br_t e2 ?_
    by_cases y3 : y = 3
    · rw [if_pos y3] at h
      exact br_t y3 h
    · rw [if_neg y3] at h
      exact br_f y3 h
  · rw [if_neg e2] at h
    refine br_f e2 ?_
    by_cases e3 : so = 3
    · rw [if_pos e3] at h
      exact br_t e3 h
    · rw [if_neg e3] at h
      exact br_f e3 h
end
end
section
/-! ===== what is answered is what the law expects ===== -/
theorem dk_l8v {v s : Int32} (hv : ¬ v < 0 ∧ ¬ 2 < v) (hs : ¬ s < 0 ∧ ¬ 63 < s) : dk_l8 v s = dk_val s v := by
  have n : ¬ v = 3 := by
    intro e
    rw [e] at hv
    exact hv.2 (by decide)
  unfold dk_l8 dk_val
  rw [if_pos ⟨hv, hs⟩, if_neg n]
theorem dk_ct_iff {k x y s : Int32} (hf : dk_first k x y) (hs : ¬ s < 0 ∧ ¬ 63 < s) : ((k = 0 → dk_l8 x s = y) ∧ (¬ k = 0 → ¬ dk_l8 y s < dk_l8 x s)) ↔ dk_ct k x y s = true := by
  obtain ⟨hk, hx, hy1, hy2⟩ := hf
  have ex := dk_l8v hx hs
  unfold dk_ct
  by_cases k0 : k = 0
  · rw [if_pos k0, ex]
    exact ⟨fun t => decide_eq_true (t.1 k0), fun t => ⟨fun _ => of_decide_eq_true t, fun n => absurd k0 n⟩⟩
  · rw [if_neg k0] at hy2
    rw [if_neg k0, ex, dk_l8v ⟨hy1, hy2⟩ hs]
    constructor
    · intro t
      rw [decide_eq_false (t.2 k0)]
      rfl
    · intro t
      refine ⟨fun n => absurd n k0, fun _ e => ?_⟩
      rw [decide_eq_true e] at t
      exact absurd t (by decide)
theorem dk_b8 : ∀ n, n ≤ 3 → (nI n).toInt8.toInt32 = nI n := by decide +kernel
theorem dk_z3 : ∀ n, n ≤ 3 → ((0 : Int32) + nI n) &&& 3 = nI n := by decide +kernel
theorem dk_clr : ∀ x, x < 3 → ∀ j, j < 64 → nI j &&& (((3 : Int32) <<< ((2 * nI x) &&& 31)) ^^^ (-1)) = nI (dk_tn x 0 j) := by decide +kernel
section
variable {k x y so z f x9 o cc : Int32} {H : Int64} {j : Nat}
theorem dk_ans (hj : j < 64) (hf : dk_is (dk_first k x y) f) (hcc : (dk_first k x y ∧ cc = 1 ∧ H = dk_cd k x y 64) ∨ (¬ dk_first k x y ∧ cc = 0)) (h9 : dk_is (dk_first k x y ∧ (¬ nI j < 0 ∧ ¬ 63 < nI j) ∧ dk_ct k x y (nI j) = true) x9) (ho : dk_is ((so = 4 ∨ so = 5) ∧ x = 0 ∧ ¬ f = 0) o) (hmk : dk_mk cc so x y z) :
    ∃ c e, dk_E (dk_en (dk_G H so x.toInt8.toInt32 y.toInt8.toInt32 z.toInt8.toInt32 0) (nI j) 64) c e ∧ dk_l13 so o x9 = nI c ∧ (c ≠ 0 → dk_l14 x y so z (nI j) (dk_l8 y (nI j)) = nI e) := by
  have ri : ¬ nI j < 0 ∧ ¬ 63 < nI j := ⟨nI_pos (by omega), nI_nlt (b := j) (a := 63) (by omega) (by decide)⟩
  rcases hmk with rfl | rfl | ⟨rfl, hx, hy, hz⟩ | ⟨rfl, hx⟩ | ⟨h45, hx⟩
  · have o0 : o = 0 := dk_is_n ho (fun t => t.1.elim (fun e => absurd e (by decide)) (fun e => absurd e (by decide)))
    refine ⟨1, j, ?_, ?_, fun _ => ?_⟩
    · rw [dk_r0 _ _ _ _ hj]
      exact dk_E1 hj
    · unfold dk_l13
      rw [if_neg (by decide), if_pos o0, if_neg (by decide)]
      rfl
    · unfold dk_l14
      rw [if_neg (by decide), if_neg (by decide)]
  · refine ⟨0, 0, ?_, ?_, fun n => absurd rfl n⟩
    · rw [dk_r1 _ _ _ _ hj]
      exact dk_E0 0
    · unfold dk_l13
      rw [if_pos rfl]
      rfl
  · have o0 : o = 0 := dk_is_n ho (fun t => t.1.elim (fun e => absurd e (by decide)) (fun e => absurd e (by decide)))
    obtain ⟨xn, hxn, rfl⟩ := dk_rng (M := 2) (n := 2) (by decide) hx.1 hx.2
    obtain ⟨yn, hyn, rfl⟩ := dk_rng (M := 3) (n := 3) (by decide) hy.1 hy.2
    obtain ⟨zn, hzn, rfl⟩ := dk_rng (M := 3) (n := 3) (by decide) hz.1 hz.2
    obtain ⟨v, hv, ev⟩ := dk_m3 (dk_val (nI j) (nI yn) + nI zn)
    obtain ⟨t1, t2⟩ := dk_tn_ok xn (by omega) v hv j hj
    refine ⟨1, dk_tn xn v j, ?_, ?_, fun _ => ?_⟩
    · rw [dk_b8 xn (by omega), dk_b8 yn (by omega), dk_b8 zn (by omega), dk_r2 H (by omega) _ _ hj hv ev]
      exact dk_E1 t2
    · unfold dk_l13
      rw [if_neg (by decide), if_pos o0, if_neg (by decide)]
      rfl
    · unfold dk_l14
      rw [if_pos rfl]
      by_cases y3 : nI yn = 3
      · rw [if_pos y3]
        have d0 : dk_val (nI j) (nI yn) = 0 := by
          unfold dk_val
          rw [if_pos y3]
        rw [d0, dk_z3 zn hzn] at ev
        rw [ev]
        exact t1
      · have y2 : yn ≤ 2 := by
          rcases Nat.lt_or_ge yn 3 with q | q
          · omega
          · have e : yn = 3 := by omega
            exact absurd (by rw [e]; rfl) y3
        rw [if_neg y3, dk_l8v ⟨nI_pos (by omega), nI_nlt (b := yn) (a := 2) (by omega) (by decide)⟩ ri, ev]
        exact t1
  · have o0 : o = 0 := dk_is_n ho (fun t => t.1.elim (fun e => absurd e (by decide)) (fun e => absurd e (by decide)))
    obtain ⟨xn, hxn, rfl⟩ := dk_rng (M := 2) (n := 2) (by decide) hx.1 hx.2
    refine ⟨4, dk_tn xn 0 j, ?_, ?_, fun _ => ?_⟩
    · rw [dk_b8 xn (by omega), dk_r3 H (by omega) _ _ hj]
      exact dk_E4 (by omega) hj
    · unfold dk_l13
      rw [if_neg (by decide), if_pos o0, if_pos rfl]
      rfl
    · unfold dk_l14
      rw [if_neg (by decide), if_pos rfl]
      exact dk_clr xn (by omega) j hj
  · rcases hcc with ⟨fi, rfl, rfl⟩ | ⟨fi, rfl⟩
    · have x0 : x = 0 := dk_x0 hx.1 hx.2
      have f1 : f = 1 := dk_is_y hf fi
      have o1 : o = 1 := dk_is_y ho ⟨h45, x0, by rw [f1]; decide⟩
      have s1 : ¬ so = 1 := by rcases h45 with e | e <;> rw [e] <;> decide
      have s2 : ¬ so = 2 := by rcases h45 with e | e <;> rw [e] <;> decide
      have s3 : ¬ so = 3 := by rcases h45 with e | e <;> rw [e] <;> decide
      have hb : dk_b (dk_cd k x y 64) j = dk_ct k x y (nI j) := by
        rw [dk_cd_b k x y 64 (by omega) j]
        simp [hj]
      have r := dk_r45 (dk_cd k x y 64) so x.toInt8.toInt32 y.toInt8.toInt32 z.toInt8.toInt32 h45 hj
      by_cases ct : dk_ct k x y (nI j) = true
      · have n1 : x9 = 1 := dk_is_y h9 ⟨fi, ri, ct⟩
        refine ⟨1, j, ?_, ?_, fun _ => ?_⟩
        · rw [r, hb, if_pos ct]
          exact dk_E1 hj
        · unfold dk_l13
          rw [if_neg s1, if_neg (by rw [o1]; decide), if_neg (by rw [n1]; decide), if_neg s3]
          rfl
        · unfold dk_l14
          rw [if_neg s2, if_neg s3]
      · have n0 : x9 = 0 := dk_is_n h9 (fun t => ct t.2.2)
        refine ⟨0, 0, ?_, ?_, fun n => absurd rfl n⟩
        · rw [r, hb, if_neg ct]
          exact dk_E0 0
        · unfold dk_l13
          rw [if_neg s1, if_neg (by rw [o1]; decide), if_pos n0]
          rfl
    · exact absurd (dk_nlt hx.1) hx.2
theorem dk_last (hj : j < 64) (hcc : (dk_first k x y ∧ cc = 1 ∧ H = dk_cd k x y 64) ∨ (¬ dk_first k x y ∧ cc = 0)) (h9 : dk_is (dk_first k x y ∧ (¬ nI j < 0 ∧ ¬ 63 < nI j) ∧ dk_ct k x y (nI j) = true) x9) (hmk : dk_mk cc so x y z) :
    dk_b (dk_G H so x.toInt8.toInt32 y.toInt8.toInt32 z.toInt8.toInt32 1 0) j = true ↔ (so = 1 ∨ (so = 5 ∧ x9 = 0)) := by
  have ri : ¬ nI j < 0 ∧ ¬ 63 < nI j := ⟨nI_pos (by omega), nI_nlt (b := j) (a := 63) (by omega) (by decide)⟩
  have hk : so = 0 ∨ so = 1 ∨ (so = 2 ∧ ∃ n, n < 3 ∧ x.toInt8.toInt32 = nI n) ∨ (so = 3 ∧ ∃ n, n < 3 ∧ x.toInt8.toInt32 = nI n) ∨ so = 4 ∨ so = 5 := by
    rcases hmk with e | e | ⟨e, hx, _⟩ | ⟨e, hx⟩ | ⟨h45, _⟩
    · exact Or.inl e
    · exact Or.inr (Or.inl e)
    · obtain ⟨xn, hxn, rfl⟩ := dk_rng (M := 2) (n := 2) (by decide) hx.1 hx.2
      exact Or.inr (Or.inr (Or.inl ⟨e, xn, by omega, dk_b8 xn (by omega)⟩))
    · obtain ⟨xn, hxn, rfl⟩ := dk_rng (M := 2) (n := 2) (by decide) hx.1 hx.2
      exact Or.inr (Or.inr (Or.inr (Or.inl ⟨e, xn, by omega, dk_b8 xn (by omega)⟩)))
    · exact Or.inr (Or.inr (Or.inr (Or.inr h45)))
  rw [dk_f H so _ _ _ hk hj]
  by_cases s5 : so = 5
  · subst s5
    have hb : dk_b H j = true ↔ ¬ x9 = 0 := by
      rcases hmk with e | e | ⟨e, _⟩ | ⟨e, _⟩ | ⟨_, hx⟩
      · exact absurd e (by decide)
      · exact absurd e (by decide)
      · exact absurd e (by decide)
      · exact absurd e (by decide)
      · rcases hcc with ⟨fi, rfl, rfl⟩ | ⟨fi, rfl⟩
        · rw [dk_is_iff h9, dk_cd_b k x y 64 (by omega) j]
          simp [hj, fi, ri]
        · exact absurd (dk_nlt hx.1) hx.2
    cases hv : dk_b H j
    · have n : x9 = 0 := by
        rcases Classical.em (x9 = 0) with q | q
        · exact q
        · exact absurd (hb.mpr q) (by rw [hv]; decide)
      exact ⟨fun _ => Or.inr ⟨rfl, n⟩, fun _ => by decide⟩
    · have n := hb.mp hv
      refine ⟨fun t => absurd t (by decide), fun t => ?_⟩
      rcases t with t | t
      · exact absurd t (by decide)
      · exact absurd t.2 n
  · rw [decide_eq_false s5]
    simp [s5]
end
end
section
/-! ===== the law ===== -/
section
variable {cc pc lv d : Int32} {w : Int64} {a1 a10 a11 a13 a15 a16 : Nat → Int64} {a2 a3 a4 a5 a6 a7 a8 a9 a12 a14 : Nat → Int32}
theorem dk_379 {post : Int32 → St0 → Prop} {mc ms kc ks : Nat} {k x y so z s f x9 o md z0 z1 : Int32} (h1 : post 1 ()) (hf : dk_is (dk_first k x y) f) (hcc : (dk_first k x y ∧ cc = 1 ∧ a1 0 = dk_cd k x y 64) ∨ (¬ dk_first k x y ∧ cc = 0)) (h9 : dk_is (dk_first k x y ∧ (¬ s < 0 ∧ ¬ 63 < s) ∧ dk_ct k x y s = true) x9) (ho : dk_is ((so = 4 ∨ so = 5) ∧ x = 0 ∧ ¬ f = 0) o) (hmd : dk_is (dk_mk cc so x y z) md) (hz : z1 = z0) :
    wL_lawOf_379 post mc ms x y so z s x9 md (dk_l13 so o x9) (dk_l14 x y so z s (dk_l8 y s)) z0 z1 kc ks cc 0 1 d w a1 a2 a3 a4 a5 a6 a7 a8 a9 a10 a11 a12 a13 (fun _ => 0) a15 a16 := by
  have iff : (¬ cc ≤ 0 ∧ (¬ s < 0 ∧ ¬ 63 < s) ∧ ¬ dk_t (a1 0) s = 0) ↔ (dk_first k x y ∧ (¬ s < 0 ∧ ¬ 63 < s) ∧ dk_ct k x y s = true) := by
    rcases hcc with ⟨fi, c1, e1⟩ | ⟨fi, c0⟩
    · have q : (¬ s < 0 ∧ ¬ 63 < s) → (¬ dk_t (a1 0) s = 0 ↔ dk_ct k x y s = true) := by
        intro hs
        obtain ⟨j, hj, rfl⟩ := dk_rng (M := 63) (n := 63) (by decide) hs.1 hs.2
        have hj' : j < 64 := by omega
        rw [dk_t0 hj', e1, dk_cd_b k x y 64 (by omega) j]
        simp [hj']
      exact ⟨fun t => ⟨fi, t.2.1, (q t.2.1).mp t.2.2⟩, fun t => ⟨by rw [c1]; decide, t.2.1, (q t.2.1).mpr t.2.2⟩⟩
    · exact ⟨fun t => absurd (show cc ≤ 0 by rw [c0]; decide) t.1, fun t => absurd t.1 fi⟩
  unfold wL_lawOf_379
  refine br_t hz (dk_holds (fun r hr => br_t (dk_is_eq hr h9 iff) (dk_prog (fun mk => ?_) (fun mk => ?_))))
  · have m1 : ¬ md = 0 := (dk_is_iff hmd).mpr mk
    obtain ⟨_, _, k6, _, _, _, _, k8⟩ := dk_mkr mk
    refine br_f m1 ?_
    by_cases hs : ¬ s < 0 ∧ ¬ 63 < s
    · obtain ⟨j, hj, rfl⟩ := dk_rng (M := 63) (n := 63) (by decide) hs.1 hs.2
      have hj' : j < 64 := by omega
      obtain ⟨c, e, hE, h13, h14⟩ := dk_ans hj' hf hcc h9 ho mk
      have hl := dk_last hj' hcc h9 mk
      refine dk_419_g (c := c) (e := e) h1 hj' m1 ?_ ?_ (dk_C_0 _) ?_ h13 h14 ?_ rfl
      · rw [pk_us, k8]
        exact k6
      · rw [pk_us, pk_us, k8]
        intro h45
        rcases mk with e | e | ⟨e, _⟩ | ⟨e, _⟩ | ⟨_, hx⟩
        · rw [e] at h45
          exact absurd h45 (by decide)
        · rw [e] at h45
          exact absurd h45 (by decide)
        · rw [e] at h45
          exact absurd h45 (by decide)
        · rw [e] at h45
          exact absurd h45 (by decide)
        · rcases hcc with ⟨_, c1, _⟩ | ⟨_, c0⟩
          · rw [c1] at hx
            rw [dk_x0 hx.1 hx.2]
            decide
          · rw [c0] at hx
            exact absurd (dk_nlt hx.1) hx.2
      · rw [pk_us, pk_us, pk_us, pk_us, k8]
        exact hE
      · rw [pk_us, pk_us, pk_us, pk_us, k8]
        exact hl
    · exact dk_419_b h1 (Or.inr hs) rfl
  · have m0 : md = 0 := dk_is_n hmd mk
    exact br_t m0 (dk_419_b h1 (Or.inl ⟨rfl, m0⟩) rfl)
end
theorem dk_350 {post : Int32 → St0 → Prop} {k x y so z s f x9 o md : Int32} (h1 : post 1 ()) (hf : dk_is (dk_first k x y) f) (h9 : dk_is (dk_first k x y ∧ (¬ s < 0 ∧ ¬ 63 < s) ∧ dk_ct k x y s = true) x9) (ho : dk_is ((so = 4 ∨ so = 5) ∧ x = 0 ∧ ¬ f = 0) o)
    (hm1 : dk_first k x y → dk_is (dk_mk 1 so x y z) md) (hm0 : ¬ dk_first k x y → dk_is (dk_mk 0 so x y z) md) :
    wL_lawOf_350 post 17 565 k x y so z s f x9 md (dk_l13 so o x9) (dk_l14 x y so z s (dk_l8 y s)) 0 0 := by
  unfold wL_lawOf_350
  refine ⟨by decide, by decide, 16, 544, by decide, by decide, ?_⟩
  unfold wpX_init
  refine ⟨by decide, by decide, by decide, by decide, by decide, by decide, by decide, by decide, by decide, by decide, by decide, by decide, by decide, by decide, by decide, by decide, by decide, by decide, by decide, by decide, by decide, by decide, by decide, by decide, by decide, by decide, by decide, by decide, by decide, by decide, by decide, by decide, ?_⟩
  refine dk_cond (fun fi => ?_) (fun fi => ?_)
  · exact br_f (by rw [dk_is_y hf fi]; decide) (dk_379 h1 hf (Or.inl ⟨fi, rfl, pk_uLs⟩) h9 ho (hm1 fi) rfl)
  · exact br_t (dk_is_n hf fi) (dk_379 h1 hf (Or.inr ⟨fi, rfl⟩) h9 ho (hm0 fi) rfl)
theorem dk_01 {so : Int32} : (¬ so < 0 ∧ ¬ 1 < so) ↔ (so = 0 ∨ so = 1) := by
  constructor
  · intro h
    obtain ⟨j, hj, rfl⟩ := dk_rng (M := 1) (n := 1) (by decide) h.1 h.2
    have e : j = 0 ∨ j = 1 := by omega
    rcases e with rfl | rfl
    · exact Or.inl rfl
    · exact Or.inr rfl
  · intro h
    rcases h with rfl | rfl
    · exact ⟨by decide, by decide⟩
    · exact ⟨by decide, by decide⟩
theorem dk_mk_iff {cc k x y so z f t2 o : Int32} (hf : dk_is (dk_first k x y) f) (hcc : (dk_first k x y ∧ cc = 1) ∨ (¬ dk_first k x y ∧ cc = 0)) (ht : dk_is (so = 2 ∧ (¬ x < 0 ∧ ¬ 2 < x) ∧ (¬ y < 0 ∧ ¬ 3 < y) ∧ (¬ z < 0 ∧ ¬ 3 < z)) t2) (ho : dk_is ((so = 4 ∨ so = 5) ∧ x = 0 ∧ ¬ f = 0) o) :
    ((¬ so < 0 ∧ ¬ 1 < so) ∨ ¬ t2 = 0 ∨ (so = 3 ∧ (¬ x < 0 ∧ ¬ 2 < x)) ∨ ¬ o = 0) ↔ dk_mk cc so x y z := by
  have q : (x = 0 ∧ ¬ f = 0) ↔ (¬ x < 0 ∧ ¬ cc ≤ x) := by
    rw [dk_is_iff hf]
    rcases hcc with ⟨fi, rfl⟩ | ⟨fi, rfl⟩
    · constructor
      · intro t
        rw [t.1]
        exact ⟨by decide, by decide⟩
      · intro t
        exact ⟨dk_x0 t.1 t.2, fi⟩
    · exact ⟨fun t => absurd t.2 fi, fun t => absurd (dk_nlt t.1) t.2⟩
  rw [dk_is_iff ht, dk_is_iff ho, dk_01, q]
  unfold dk_mk
  exact or_assoc
theorem dk_law {post : Int32 → St0 → Prop} {k x y so z s : Int32} (h1 : post 1 ()) : wpL_lawOf post 17 565 () k x y so z s := by
  refine dk_h40 (fun f hf => dk_h74 (dk_h108 (dk_h151 (fun h9 hh9 => dk_h191 (fun t2 ht => dk_h217 (fun o ho => dk_h257 (fun md hmd => dk_h288 (dk_h350 ?_))))))))
  refine dk_350 h1 hf (dk_is_of hh9 ?_) ho (fun fi => dk_is_of hmd (dk_mk_iff hf (Or.inl ⟨fi, rfl⟩) ht ho)) (fun fi => dk_is_of hmd (dk_mk_iff hf (Or.inr ⟨fi, rfl⟩) ht ho))
  rw [dk_is_iff hf]
  exact ⟨fun t => ⟨t.1, t.2.1, (dk_ct_iff t.1 t.2.1).mp t.2.2⟩, fun t => ⟨t.1, t.2.1, (dk_ct_iff t.1 t.2.1).mpr t.2.2⟩⟩
theorem dk_cell {post : Int32 → Prop} {L : Nat} {xs : Nat → Int32} {u : St0} {p : Int32} (i : Nat) (hL : L ≤ 6) (h : ∀ r, post r) (hp : p = nI i := by rfl) (hi : i < 6 := by decide) : wpL_cellAt post L xs u p := by
  subst hp
  refine br_c (fun _ => h 0) (fun n => ⟨?_, h _⟩)
  have z : i < L := by
    rcases Nat.lt_or_ge i L with q | q
    · exact q
    · exact absurd (nI_le q (by omega)) n
  exact vp_in_nI z (by omega)
theorem i_vc (xs : Nat → Int32) (L : Nat) (hL : L ≤ 6) : wpL_law (fun r => r = 1) L xs := by
  unfold wpL_law
  exact dk_cell 0 hL (fun r1 => dk_cell 1 hL (fun r2 => dk_cell 2 hL (fun r3 => dk_cell 3 hL (fun r4 => dk_cell 4 hL (fun r5 => dk_cell 5 hL (fun r6 => ⟨17, 565, by decide, by decide, dk_law rfl⟩))))))
end
