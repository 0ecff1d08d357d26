section
/-! rows of the kit (PURE-ROWS, BITS) that are used here, pasted; own small rows behind them -/
theorem pk_us {f : Nat → Int32} {k : Nat} {x : Int32} : upd f k x k = x := if_pos rfl
theorem pk_un {f : Nat → Int32} {k j : Nat} {x : Int32} (h : j ≠ k) : upd f k x j = f j := if_neg h
theorem pk_sub {a b : Nat} (h : b ≤ a) : nI a - nI b = nI (a - b) := by
  obtain ⟨c, rfl⟩ : ∃ c, a = c + b := ⟨a - b, by omega⟩
  rw [← nI_add, Int32.add_sub_cancel, Nat.add_sub_cancel]
theorem pk_m1 (n : Nat) : nI (n + 1) + (-1) = nI n := by
  rw [← nI_1, Int32.add_assoc, show (1 : Int32) + (-1) = 0 from rfl, Int32.add_zero]
theorem pk_ix (x : Int32) {n : Nat} (hn : n < 2 ^ 31) : x < 0 ∨ nI n ≤ x ∨ ∃ j : Nat, j < n ∧ x = nI j := by
  by_cases h : x < 0
  · exact Or.inl h
  · obtain ⟨j, hj, rfl⟩ := nI_of h
    by_cases h2 : j < n
    · exact Or.inr (Or.inr ⟨j, h2, rfl⟩)
    · exact Or.inr (Or.inl (nI_le (by omega) hj))
def bt (x : Int32) (i : Nat) : Bool := x.toBitVec.getLsbD i
theorem b_ext {x y : Int32} (h : ∀ i, i < 32 → bt x i = bt y i) : x = y := Int32.toBitVec_inj.mp (BitVec.eq_of_getLsbD_eq (fun i hi => h i hi))
theorem b_or (x y : Int32) (i : Nat) : bt (x ||| y) i = (bt x i || bt y i) := by unfold bt; rw [Int32.toBitVec_or, BitVec.getLsbD_or]
theorem b_and (x y : Int32) (i : Nat) : bt (x &&& y) i = (bt x i && bt y i) := by unfold bt; rw [Int32.toBitVec_and, BitVec.getLsbD_and]
theorem b_xor (x y : Int32) (i : Nat) : bt (x ^^^ y) i = (bt x i ^^ bt y i) := by unfold bt; rw [Int32.toBitVec_xor, BitVec.getLsbD_xor]
theorem b_big {x : Int32} {i : Nat} (h : 32 ≤ i) : bt x i = false := BitVec.getLsbD_of_ge _ _ h
theorem b_255 (i : Nat) : bt 255 i = decide (i < 8) := by
  rcases Nat.lt_or_ge i 32 with h | h
  · exact (by decide +kernel : ∀ i, i < 32 → bt 255 i = decide (i < 8)) i h
  · rw [b_big h, decide_eq_false (by omega)]
theorem b_65535 (i : Nat) : bt 65535 i = decide (i < 16) := by
  rcases Nat.lt_or_ge i 32 with h | h
  · exact (by decide +kernel : ∀ i, i < 32 → bt 65535 i = decide (i < 16)) i h
  · rw [b_big h, decide_eq_false (by omega)]
theorem b_m1 : ∀ i, i < 32 → bt (-1) i = true := by decide +kernel
theorem b_0 (i : Nat) : bt 0 i = false := BitVec.getLsbD_zero
theorem s_l : ∀ n, n < 32 → ((nI n &&& 31).toBitVec.smod 32).toNat = n := by decide +kernel
theorem s_u : ∀ n, n < 32 → (((nI n).toUInt32 &&& Int32.toUInt32 31).toBitVec % 32).toNat = n := by decide +kernel
theorem b_shl (n : Nat) (hn : n < 32) (x : Int32) {i : Nat} (hi : i < 32) : bt (x <<< (nI n &&& 31)) i = (decide (n ≤ i) && bt x (i - n)) := by
  unfold bt
  rw [Int32.toBitVec_shiftLeft]
  show (x.toBitVec <<< ((nI n &&& 31).toBitVec.smod 32).toNat).getLsbD i = _
  rw [s_l n hn, BitVec.getLsbD_shiftLeft]
  rcases Nat.lt_or_ge i n with h | h
  · simp [h, Nat.not_le.mpr h]
  · simp [hi, h, Nat.not_lt.mpr h]
theorem b_ushr (n : Nat) (hn : n < 32) (x : Int32) (i : Nat) : bt ((x.toUInt32 >>> ((nI n).toUInt32 &&& Int32.toUInt32 31)).toInt32) i = bt x (n + i) := by
  show (x.toUInt32 >>> ((nI n).toUInt32 &&& Int32.toUInt32 31)).toBitVec.getLsbD i = x.toUInt32.toBitVec.getLsbD (n + i)
  rw [UInt32.toBitVec_shiftRight]
  show (x.toUInt32.toBitVec >>> (((nI n).toUInt32 &&& Int32.toUInt32 31).toBitVec % 32).toNat).getLsbD i = _
  rw [s_u n hn, BitVec.getLsbD_ushiftRight]
theorem b_sshr (n : Nat) (hn : n < 32) (x : Int32) {i : Nat} (hi : i < 32) : bt (x >>> (nI n &&& 31)) i = if n + i < 32 then bt x (n + i) else bt x 31 := by
  unfold bt
  rw [Int32.toBitVec_shiftRight]
  show (x.toBitVec.sshiftRight ((nI n &&& 31).toBitVec.smod 32).toNat).getLsbD i = _
  rw [s_l n hn, BitVec.getLsbD_sshiftRight, BitVec.msb_eq_getLsbD_last]
  simp [hi]
/-! ===== own: bytes, bits ===== -/
theorem ud_m1neg : (-1 : Int32) < 0 := by decide
theorem ud_m1nn : ¬ (0 : Int32) ≤ -1 := by decide
theorem ud_nm1 {c : Nat} (h : c < 2 ^ 31) : nI c ≠ -1 := fun e => nI_pos h (e ▸ ud_m1neg)
theorem ud_by8 : ∀ c, c < 128 → (nI c).toInt8.toInt32 = nI c := by decide +kernel
theorem ud_bym : (-1 : Int32).toInt8.toInt32 = -1 := by decide
theorem ud_nar {x : Int32} (h : x.toInt8.toInt32 = x) : vp_nar .byte x = x := by rw [vp_nar_byte, h]
theorem ud_nar2 {x : Int32} (h : x.toInt8.toInt32 = x) : vp_nar .byte x.toInt8.toInt32 = x := by rw [h]; exact ud_nar h
theorem ud_narm : vp_nar .byte (-1) = -1 := ud_nar ud_bym
theorem ud_bool0 : vp_nar .boolean 0 = 0 := rfl
theorem ud_bool1 : vp_nar .boolean 1 = 1 := rfl
theorem ud_one : ∀ i, i < 32 → bt 1 i = decide (i = 0) := by decide +kernel
theorem ud_and1 (y : Int32) : (y &&& 1) = 0 ↔ bt y 0 = false := by
  constructor
  · intro h
    have h1 : bt (y &&& 1) 0 = bt 0 0 := by rw [h]
    rw [b_and, b_0, ud_one 0 (by omega)] at h1
    simpa using h1
  · intro h
    apply b_ext
    intro i hi
    rw [b_and, b_0, ud_one i hi]
    by_cases z : i = 0
    · subst z; rw [h]; rfl
    · rw [decide_eq_false z, Bool.and_false]
theorem ud_bitS (x : Int32) {n : Nat} (hn : n < 32) : ((x >>> (nI n &&& 31)) &&& 1) = 0 ↔ bt x n = false := by
  rw [ud_and1, b_sshr n hn x (by omega), if_pos (by omega), Nat.add_zero]
theorem ud_bitU (x : Int32) {n : Nat} (hn : n < 32) : (((x.toUInt32 >>> ((nI n).toUInt32 &&& Int32.toUInt32 31)).toInt32) &&& 1) = 0 ↔ bt x n = false := by
  rw [ud_and1, b_ushr n hn x 0, Nat.add_zero]
theorem ud_sh1 {n i : Nat} (hn : n < 32) (hi : i < 32) : bt ((1 : Int32) <<< (nI n &&& 31)) i = decide (i = n) := by
  rw [b_shl n hn 1 hi, ud_one (i - n) (by omega)]
  by_cases z : i = n
  · subst z; simp
  · rw [decide_eq_false z]
    by_cases h : n ≤ i
    · rw [decide_eq_false (show ¬ i - n = 0 by omega), Bool.and_false]
    · rw [decide_eq_false h, Bool.false_and]
theorem ud_set (x : Int32) {n i : Nat} (hn : n < 32) (hi : i < 32) : bt (x ||| ((1 : Int32) <<< (nI n &&& 31))) i = (bt x i || decide (i = n)) := by
  rw [b_or, ud_sh1 hn hi]
theorem ud_clr (x : Int32) {n i : Nat} (hn : n < 32) (hi : i < 32) : bt (x &&& (((1 : Int32) <<< (nI n &&& 31)) ^^^ (-1))) i = (bt x i && !decide (i = n)) := by
  rw [b_and, b_xor, ud_sh1 hn hi, b_m1 i hi, Bool.xor_true]
theorem ud_updeq {f : Nat → Int32} {k : Nat} : upd f k (f k) = f := by
  funext j
  by_cases z : j = k
  · subst z; exact pk_us
  · exact pk_un z
theorem ud_upd {f : Nat → Int32} {k j : Nat} {x : Int32} : upd f k x j = if j = k then x else f j := rfl
/-- a value between 0 and n - 1, or not -/
theorem ud_ix4 (x : Int32) : x < 0 ∨ (¬ x < 0 ∧ 4 ≤ x ∧ 3 < x) ∨ ∃ j : Nat, j < 4 ∧ x = nI j := by
  rcases pk_ix x (n := 4) (by omega) with h | h | h
  · exact Or.inl h
  · refine Or.inr (Or.inl ⟨?_, h, ?_⟩)
    · have h2 : (nI 4).toInt = 4 := nI_toInt (by omega)
      have h3 : (0 : Int32).toInt = 0 := by decide
      rw [Int32.le_iff_toInt_le] at h
      rw [Int32.lt_iff_toInt_lt]
      omega
    · have h2 : (nI 4).toInt = 4 := nI_toInt (by omega)
      have h3 : (3 : Int32).toInt = 3 := by decide
      rw [Int32.le_iff_toInt_le] at h
      rw [Int32.lt_iff_toInt_lt]
      omega
  · exact Or.inr (Or.inr h)
theorem ud_ix8 (x : Int32) : x < 0 ∨ (¬ x < 0 ∧ 8 ≤ x ∧ 7 < x) ∨ ∃ j : Nat, j < 8 ∧ x = nI j := by
  rcases pk_ix x (n := 8) (by omega) with h | h | h
  · exact Or.inl h
  · refine Or.inr (Or.inl ⟨?_, h, ?_⟩)
    · have h2 : (nI 8).toInt = 8 := nI_toInt (by omega)
      have h3 : (0 : Int32).toInt = 0 := by decide
      rw [Int32.le_iff_toInt_le] at h
      rw [Int32.lt_iff_toInt_lt]
      omega
    · have h2 : (nI 8).toInt = 8 := nI_toInt (by omega)
      have h3 : (7 : Int32).toInt = 7 := by decide
      rw [Int32.le_iff_toInt_le] at h
      rw [Int32.lt_iff_toInt_lt]
      omega
  · exact Or.inr (Or.inr h)
theorem ud_cl {n : Nat} (h : n < 4096) : (nI n).toNatClampNeg = n := nI_clamp (by omega)
theorem ud_inj {a b : Nat} (ha : a < 4096) (hb : b < 4096) (e : nI a = nI b) : a = b := (nI_eq (by omega) (by omega)).mp e
theorem ud_nf {x : Bool} (h : ¬ x = false) : x = true := by
  cases x
  · exact absurd rfl h
  · rfl
theorem ud_nt {x : Bool} (h : ¬ x = true) : x = false := by
  cases x
  · rfl
  · exact absurd rfl h
end
section
/-! ===== counting ===== -/
def ud_cn (f : Nat → Bool) : Nat → Nat
  | 0 => 0
  | n + 1 => ud_cn f n + (if f n = true then 1 else 0)
theorem ud_cn_le (f : Nat → Bool) : ∀ n, ud_cn f n ≤ n := by
  intro n
  induction n with
  | zero => exact Nat.le_refl _
  | succ n ih =>
    unfold ud_cn
    by_cases h : f n = true
    · rw [if_pos h]; omega
    · rw [if_neg h]; omega
theorem ud_cn_cg {f g : Nat → Bool} : ∀ n, (∀ i, i < n → f i = g i) → ud_cn f n = ud_cn g n := by
  intro n
  induction n with
  | zero => intro _; rfl
  | succ n ih =>
    intro h
    unfold ud_cn
    rw [ih (fun i hi => h i (by omega)), h n (by omega)]
/-- one more member -/
theorem ud_cn_add {f g : Nat → Bool} {e : Nat} (hf : f e = false) (hg : g e = true) (hn : ∀ j, j ≠ e → g j = f j) : ∀ n, e < n → ud_cn g n = ud_cn f n + 1 := by
  intro n
  induction n with
  | zero => intro h; omega
  | succ n ih =>
    intro h
    unfold ud_cn
    by_cases z : n = e
    · subst z
      rw [hf, hg, ud_cn_cg n (fun i hi => hn i (by omega))]
      rfl
    · rw [ih (by omega), hn n z]; omega
theorem ud_cn_zero {f : Nat → Bool} : ∀ n, ud_cn f n = 0 → ∀ i, i < n → f i = false := by
  intro n
  induction n with
  | zero => intro _ i hi; omega
  | succ n ih =>
    intro h i hi
    unfold ud_cn at h
    by_cases z : f n = true
    · rw [if_pos z] at h; omega
    · rw [if_neg z] at h
      by_cases y : i = n
      · subst y; exact Bool.eq_false_iff.mpr z
      · exact ih (by omega) i (by omega)
theorem ud_cn_none {f : Nat → Bool} : ∀ n, (∀ i, i < n → f i = false) → ud_cn f n = 0 := by
  intro n
  induction n with
  | zero => intro _; rfl
  | succ n ih =>
    intro h
    unfold ud_cn
    rw [ih (fun i hi => h i (by omega)), h n (by omega)]
    rfl
theorem ud_cn_all {f : Nat → Bool} : ∀ n, (∀ i, i < n → f i = true) → ud_cn f n = n := by
  intro n
  induction n with
  | zero => intro _; rfl
  | succ n ih =>
    intro h
    unfold ud_cn
    rw [ih (fun i hi => h i (by omega)), h n (by omega)]
    rfl
theorem ud_cn_pos {f : Nat → Bool} {n i : Nat} (hi : i < n) (h : f i = true) : 0 < ud_cn f n := by
  rcases Nat.eq_zero_or_pos (ud_cn f n) with z | z
  · have := ud_cn_zero n z i hi
    rw [h] at this
    exact absurd this (by decide)
  · exact z
theorem ud_cn_inj {A : Nat → Bool} {h : Nat → Nat} {m : Nat} : ∀ (n : Nat) (B : Nat → Bool), (∀ c, c < n → A c = true → h c < m ∧ B (h c) = true) → (∀ c d, c < n → d < n → A c = true → A d = true → h c = h d → c = d) → ud_cn A n ≤ ud_cn B m := by
  intro n
  induction n with
  | zero => intro B _ _; exact Nat.zero_le _
  | succ n ih =>
    intro B hB hi
    show ud_cn A n + (if A n = true then 1 else 0) ≤ ud_cn B m
    by_cases z : A n = true
    · rw [if_pos z]
      obtain ⟨h1, h2⟩ := hB n (by omega) z
      have key := ih (fun j => B j && !decide (j = h n)) (fun c hc ac => by
        obtain ⟨h3, h4⟩ := hB c (by omega) ac
        refine ⟨h3, ?_⟩
        have h5 : h c ≠ h n := fun e => by
          have := hi c n (by omega) (by omega) ac z e
          omega
        show (B (h c) && !decide (h c = h n)) = true
        rw [h4, decide_eq_false h5]
        rfl) (fun c d hc hd ac ad e => hi c d (by omega) (by omega) ac ad e)
      have h6 := ud_cn_add (f := fun j => B j && !decide (j = h n)) (g := B) (e := h n) (by
        show (B (h n) && !decide (h n = h n)) = false
        rw [decide_eq_true rfl]
        exact Bool.and_false _) h2 (fun j hj => by
        show B j = (B j && !decide (j = h n))
        rw [decide_eq_false hj]
        exact (Bool.and_true _).symm) m h1
      omega
    · rw [if_neg z]
      exact ih B (fun c hc ac => hB c (by omega) ac) (fun c d hc hd ac ad e => hi c d (by omega) (by omega) ac ad e)
/-- a bijection keeps the count -/
theorem ud_cn_bij {A B : Nat → Bool} {h : Nat → Nat} {n m : Nat} (h1 : ∀ c, c < n → A c = true → h c < m ∧ B (h c) = true) (h2 : ∀ c d, c < n → d < n → A c = true → A d = true → h c = h d → c = d) (h3 : ∀ i, i < m → B i = true → ∃ c, c < n ∧ A c = true ∧ h c = i) : ud_cn A n = ud_cn B m := by
  apply Nat.le_antisymm
  · exact ud_cn_inj n B h1 h2
  · have hk : ∀ i, ∃ c, i < m → B i = true → c < n ∧ A c = true ∧ h c = i := by
      intro i
      by_cases z : i < m ∧ B i = true
      · obtain ⟨c, hc⟩ := h3 i z.1 z.2
        exact ⟨c, fun _ _ => hc⟩
      · exact ⟨0, fun a b => absurd ⟨a, b⟩ z⟩
    obtain ⟨k, hk⟩ := Classical.skolem.mp hk
    refine ud_cn_inj (h := k) m A (fun i hi bi => ?_) (fun i j hi hj bi bj e => ?_)
    · exact ⟨(hk i hi bi).1, (hk i hi bi).2.1⟩
    · have e1 := (hk i hi bi).2.2
      have e2 := (hk j hj bj).2.2
      rw [← e1, ← e2, e]
/-! ===== sets of slots ===== -/
def ud_rm (U : Nat → Bool) (e : Nat) : Nat → Bool := fun c => U c && !decide (c = e)
def ud_ad (U : Nat → Bool) (e : Nat) : Nat → Bool := fun c => U c || decide (c = e)
theorem ud_rm_i {U : Nat → Bool} {e c : Nat} : ud_rm U e c = true ↔ U c = true ∧ c ≠ e := by
  unfold ud_rm
  by_cases z : c = e
  · rw [decide_eq_true z]; simp [z]
  · rw [decide_eq_false z]; simp [z]
theorem ud_ad_i {U : Nat → Bool} {e c : Nat} : ud_ad U e c = true ↔ U c = true ∨ c = e := by
  unfold ud_ad
  by_cases z : c = e
  · rw [decide_eq_true z]; simp [z]
  · rw [decide_eq_false z]; simp [z]
/-! ===== the greatest of a set, as a slot's number, -1 for none ===== -/
def ud_Mx (S : Nat → Prop) (g : Nat → Int) (x : Int32) : Prop :=
  (x = -1 ∧ ∀ c, ¬ S c) ∨ (∃ d, d < 24 ∧ x = nI d ∧ S d ∧ ∀ c, S c → g c ≤ g d)
theorem ud_mx_cg {S T : Nat → Prop} {g : Nat → Int} {x : Int32} (h : ∀ c, S c ↔ T c) (m : ud_Mx S g x) : ud_Mx T g x := by
  rcases m with ⟨e, a⟩ | ⟨d, d1, d2, d3, d4⟩
  · exact Or.inl ⟨e, fun c tc => a c ((h c).mpr tc)⟩
  · exact Or.inr ⟨d, d1, d2, (h d).mp d3, fun c tc => d4 c ((h c).mpr tc)⟩
theorem ud_mx_g {S : Nat → Prop} {g g' : Nat → Int} {x : Int32} (h : ∀ c, S c → g c = g' c) (m : ud_Mx S g x) : ud_Mx S g' x := by
  rcases m with ⟨e, a⟩ | ⟨d, d1, d2, d3, d4⟩
  · exact Or.inl ⟨e, a⟩
  · exact Or.inr ⟨d, d1, d2, d3, fun c sc => by rw [← h c sc, ← h d d3]; exact d4 c sc⟩
theorem ud_mx_ne {S : Nat → Prop} {g : Nat → Int} {x : Int32} {e : Nat} (m : ud_Mx S g x) (hx : x ≠ nI e) : ud_Mx (fun c => S c ∧ c ≠ e) g x := by
  rcases m with ⟨y, a⟩ | ⟨d, d1, d2, d3, d4⟩
  · exact Or.inl ⟨y, fun c sc => a c sc.1⟩
  · refine Or.inr ⟨d, d1, d2, ⟨d3, fun z => hx ?_⟩, fun c sc => d4 c sc.1⟩
    rw [d2, z]
theorem ud_mx_new {S : Nat → Prop} {g : Nat → Int} {e : Nat} (he : e < 24) (h1 : S e) (h2 : ∀ c, S c → g c ≤ g e) : ud_Mx S g (nI e) :=
  Or.inr ⟨e, he, rfl, h1, h2⟩
theorem ud_mx_none {S : Nat → Prop} {g : Nat → Int} (h : ∀ c, ¬ S c) : ud_Mx S g (-1) := Or.inl ⟨rfl, h⟩
theorem ud_mx_neg {S : Nat → Prop} {g : Nat → Int} {x : Int32} (m : ud_Mx S g x) (hx : x < 0) : x = -1 ∧ ∀ c, ¬ S c := by
  rcases m with h | ⟨d, d1, d2, d3, d4⟩
  · exact h
  · rw [d2] at hx; exact absurd hx (nI_pos (by omega))
theorem ud_mx_nn {S : Nat → Prop} {g : Nat → Int} {x : Int32} (m : ud_Mx S g x) (hx : ¬ x < 0) : ∃ d, d < 24 ∧ x = nI d ∧ S d ∧ ∀ c, S c → g c ≤ g d := by
  rcases m with ⟨e, _⟩ | h
  · rw [e] at hx; exact absurd ud_m1neg hx
  · exact h
theorem ud_mx_at {S : Nat → Prop} {g : Nat → Int} {e : Nat} (he : e < 24) (m : ud_Mx S g (nI e)) : S e ∧ ∀ c, S c → g c ≤ g e := by
  obtain ⟨d, d1, d2, d3, d4⟩ := ud_mx_nn m (nI_pos (by omega))
  have := ud_inj (by omega) (by omega) d2
  subst this
  exact ⟨d3, d4⟩
theorem ud_mx_by {S : Nat → Prop} {g : Nat → Int} {x : Int32} (m : ud_Mx S g x) : x.toInt8.toInt32 = x := by
  rcases m with ⟨e, _⟩ | ⟨d, d1, d2, _⟩
  · rw [e]; exact ud_bym
  · rw [d2]; exact ud_by8 d (by omega)
/-- the greatest leaves -/
theorem ud_mx_top {S : Nat → Prop} {g : Nat → Int} {e : Nat} {y : Int32} (inj : ∀ c, S c → g c = g e → c = e) (h : ∀ c, S c → g c ≤ g e) (m : ud_Mx (fun c => S c ∧ g c < g e) g y) : ud_Mx (fun c => S c ∧ c ≠ e) g y := by
  refine ud_mx_cg (fun c => ?_) m
  constructor
  · intro ⟨a, b⟩
    exact ⟨a, fun z => by subst z; omega⟩
  · intro ⟨a, b⟩
    refine ⟨a, ?_⟩
    have h1 := h c a
    rcases Int.lt_or_le (g c) (g e) with z | z
    · exact z
    · exact absurd (inj c a (by omega)) b
/-- the greatest, who is the least too, leaves -/
theorem ud_mx_bot {S : Nat → Prop} {g : Nat → Int} {e : Nat} (inj : ∀ c, S c → g c = g e → c = e) (h : ∀ c, S c → g c ≤ g e) (h' : ∀ c, S c → g e ≤ g c) : ud_Mx (fun c => S c ∧ c ≠ e) g (-1) := by
  refine ud_mx_none (fun c ⟨a, b⟩ => b (inj c a ?_))
  have := h c a
  have := h' c a
  omega
/-! ===== the last value of a kind ===== -/
def ud_lv (P : Nat → Bool) (v : Nat → Int32) : Nat → Int32
  | 0 => 0
  | n + 1 => if P n = true then v n else ud_lv P v n
theorem ud_lv_cg {P Q : Nat → Bool} {v w : Nat → Int32} : ∀ n, (∀ i, i < n → P i = Q i) → (∀ i, i < n → P i = true → v i = w i) → ud_lv P v n = ud_lv Q w n := by
  intro n
  induction n with
  | zero => intro _ _; rfl
  | succ n ih =>
    intro h1 h2
    unfold ud_lv
    rw [← h1 n (by omega), ih (fun i hi => h1 i (by omega)) (fun i hi => h2 i (by omega))]
    by_cases z : P n = true
    · rw [if_pos z, if_pos z, h2 n (by omega) z]
    · rw [if_neg z, if_neg z]
theorem ud_lv_skip {P : Nat → Bool} {v : Nat → Int32} {m : Nat} : ∀ n, m ≤ n → (∀ i, m ≤ i → i < n → P i = false) → ud_lv P v n = ud_lv P v m := by
  intro n
  induction n with
  | zero => intro h _; rw [show m = 0 by omega]
  | succ n ih =>
    intro h h2
    by_cases z : m = n + 1
    · rw [z]
    · have h3 : ¬ P n = true := by rw [h2 n (by omega) (by omega)]; decide
      show (if P n = true then v n else ud_lv P v n) = _
      rw [if_neg h3]
      exact ih (by omega) (fun i a b => h2 i a (by omega))
theorem ud_lv_hit {P : Nat → Bool} {v : Nat → Int32} {m n : Nat} (h : m < n) (hm : P m = true) (h2 : ∀ i, m < i → i < n → P i = false) : ud_lv P v n = v m := by
  rw [ud_lv_skip (m := m + 1) n h (fun i a b => h2 i a b)]
  exact if_pos hm
end
section
/-! ===== the order of time: the greatest, and for each the greatest below it ===== -/
def ud_Hf (U : Nat → Bool) (G : Nat → Int) (last : Int32) (oa : Nat → Int32) : Prop :=
  ud_Mx (fun d => U d = true) G last ∧ ∀ c, U c = true → ud_Mx (fun d => U d = true ∧ G d < G c) G (oa c)
theorem ud_eq1 {U : Nat → Bool} {e d : Nat} {Q : Prop} : ((U d = true ∧ Q) ∧ d ≠ e) ↔ (ud_rm U e d = true ∧ Q) :=
  ⟨fun ⟨⟨a, b⟩, c⟩ => ⟨ud_rm_i.mpr ⟨a, c⟩, b⟩, fun ⟨a, b⟩ => ⟨⟨(ud_rm_i.mp a).1, b⟩, (ud_rm_i.mp a).2⟩⟩
theorem ud_hf_unl {U : Nat → Bool} {G : Nat → Int} {first last : Int32} {oa na : Nat → Int32} {e : Nat} (hU : ∀ c, U c = true → c < 24) (inj : ∀ c d, U c = true → U d = true → G c = G d → c = d) (he : U e = true) (h : ud_Hf U G last oa) (h' : ud_Hf U (fun c => - G c) first na) :
    ud_Hf (ud_rm U e) G (if na e < 0 then oa e else last) (if na e < 0 then oa else upd oa (na e).toNatClampNeg (oa e)) := by
  have hn := h'.2 e he
  by_cases z : na e < 0
  · rw [if_pos z, if_pos z]
    have hx := (ud_mx_neg hn z).2
    have hmax : ∀ c, U c = true → G c ≤ G e := fun c uc => by
      rcases Int.lt_or_le (G e) (G c) with y | y
      · exact absurd ⟨uc, by show - G c < - G e; omega⟩ (hx c)
      · exact y
    refine ⟨?_, ?_⟩
    · exact ud_mx_cg (fun c => ud_rm_i.symm) (ud_mx_top (S := fun d => U d = true) (e := e) (fun c uc ec => inj c e uc he ec) hmax (h.2 e he))
    · intro c hc
      obtain ⟨uc, ce⟩ := ud_rm_i.mp hc
      refine ud_mx_cg (fun d => ud_eq1) (ud_mx_ne (e := e) (h.2 c uc) ?_)
      intro q
      have w := h.2 c uc
      rw [q] at w
      have y : G e < G c := (ud_mx_at (hU e he) w).1.2
      have y2 := hmax c uc
      omega
  · rw [if_neg z, if_neg z]
    obtain ⟨n, n1, n2, n3, n4⟩ := ud_mx_nn hn z
    have un : U n = true := n3.1
    have gn : G e < G n := by
      have q : - G n < - G e := n3.2
      omega
    have mn : ∀ c, U c = true → G e < G c → G n ≤ G c := fun c uc gc => by
      have q : - G c ≤ - G n := n4 c ⟨uc, by show - G c < - G e; omega⟩
      omega
    rw [n2, ud_cl (by omega)]
    refine ⟨?_, ?_⟩
    · refine ud_mx_cg (fun c => ud_rm_i.symm) (ud_mx_ne (e := e) h.1 ?_)
      intro q
      have y := h.1
      rw [q] at y
      have y2 : G n ≤ G e := (ud_mx_at (hU e he) y).2 n un
      omega
    · intro c hc
      obtain ⟨uc, ce⟩ := ud_rm_i.mp hc
      by_cases y : c = n
      · rw [y, pk_us]
        have hm : ∀ d, (U d = true ∧ G d < G n) → G d ≤ G e := fun d hd => by
          rcases Int.lt_or_le (G e) (G d) with w | w
          · have w1 := mn d hd.1 w
            have w2 := hd.2
            omega
          · exact w
        refine ud_mx_cg (fun d => ud_eq1) (ud_mx_top (S := fun d => U d = true ∧ G d < G n) (e := e) (fun d hd ed => inj d e hd.1 he ed) hm (ud_mx_cg (fun d => ?_) (h.2 e he)))
        constructor
        · intro ⟨a, b⟩
          exact ⟨⟨a, by omega⟩, b⟩
        · intro ⟨⟨a, _⟩, b⟩
          exact ⟨a, b⟩
      · rw [pk_un y]
        refine ud_mx_cg (fun d => ud_eq1) (ud_mx_ne (e := e) (h.2 c uc) ?_)
        intro q
        have w := h.2 c uc
        rw [q] at w
        obtain ⟨w1, w2⟩ := ud_mx_at (hU e he) w
        have w3 : G e < G c := w1.2
        have w4 := mn c uc w3
        have w5 : G n ≠ G c := fun t => y (inj c n uc un t.symm)
        have w6 : G n ≤ G e := w2 n ⟨un, by show G n < G c; omega⟩
        omega
theorem ud_hf_hi {U : Nat → Bool} {g g' : Nat → Int} {last : Int32} {oa : Nat → Int32} {e : Nat} (h24 : e < 24) (h1 : ∀ c, U c = true → g' c = g c) (h2 : ∀ c, U c = true → g' c < g' e) (h : ud_Hf U g last oa) :
    ud_Hf (ud_ad U e) g' (nI e) (upd oa e last) := by
  refine ⟨ud_mx_new h24 (ud_ad_i.mpr (Or.inr rfl)) (fun c hc => ?_), fun c hc => ?_⟩
  · rcases ud_ad_i.mp hc with q | q
    · have := h2 c q
      omega
    · rw [q]; exact Int.le_refl _
  · by_cases y : c = e
    · rw [y, pk_us]
      refine ud_mx_cg (fun d => ?_) (ud_mx_g (g' := g') (fun d ud => (h1 d ud).symm) h.1)
      constructor
      · intro ud
        exact ⟨ud_ad_i.mpr (Or.inl ud), h2 d ud⟩
      · intro ⟨a, b⟩
        rcases ud_ad_i.mp a with q | q
        · exact q
        · rw [q] at b; omega
    · have uc : U c = true := by
        rcases ud_ad_i.mp hc with q | q
        · exact q
        · exact absurd q y
      rw [pk_un y]
      refine ud_mx_cg (fun d => ?_) (ud_mx_g (g' := g') (fun d hd => (h1 d hd.1).symm) (h.2 c uc))
      constructor
      · intro ⟨a, b⟩
        exact ⟨ud_ad_i.mpr (Or.inl a), by rw [h1 d a, h1 c uc]; exact b⟩
      · intro ⟨a, b⟩
        rcases ud_ad_i.mp a with q | q
        · exact ⟨q, by rw [← h1 d q, ← h1 c uc]; exact b⟩
        · rw [q] at b
          have := h2 c uc
          omega
theorem ud_hf_lo {U : Nat → Bool} {g g' : Nat → Int} {first last : Int32} {na : Nat → Int32} {e : Nat} (h24 : e < 24) (he : U e = false) (inj : ∀ c d, U c = true → U d = true → g c = g d → c = d) (h1 : ∀ c, U c = true → g' c = g c) (h2 : ∀ c, U c = true → g' c < g' e) (hl : ud_Mx (fun d => U d = true) g last) (h : ud_Hf U (fun c => - g c) first na) :
    ud_Hf (ud_ad U e) (fun c => - g' c) (if last < 0 then nI e else first) (if last < 0 then upd na e (-1) else upd (upd na e (-1)) last.toNatClampNeg (nI e)) := by
  by_cases z : last < 0
  · rw [if_pos z, if_pos z]
    have hx := (ud_mx_neg hl z).2
    have ho : ∀ c, ud_ad U e c = true → c = e := fun c hc => by
      rcases ud_ad_i.mp hc with q | q
      · exact absurd q (hx c)
      · exact q
    refine ⟨ud_mx_new h24 (ud_ad_i.mpr (Or.inr rfl)) (fun c hc => ?_), fun c hc => ?_⟩
    · rw [ho c hc]; exact Int.le_refl _
    · rw [ho c hc, pk_us]
      refine ud_mx_none (fun d ⟨a, b⟩ => ?_)
      rw [ho d a] at b
      exact absurd b (Int.lt_irrefl _)
  · rw [if_neg z, if_neg z]
    obtain ⟨l, l1, l2, l3, l4⟩ := ud_mx_nn hl z
    rw [l2, ud_cl (by omega)]
    have hle : e ≠ l := fun q => by rw [q, l3] at he; exact absurd he (by decide)
    refine ⟨?_, fun c hc => ?_⟩
    · rcases h.1 with ⟨_, q⟩ | ⟨f, f1, f2, f3, f4⟩
      · exact absurd l3 (q l)
      · refine Or.inr ⟨f, f1, f2, ud_ad_i.mpr (Or.inl f3), fun c hc => ?_⟩
        rcases ud_ad_i.mp hc with q | q
        · have w : - g c ≤ - g f := f4 c q
          have w1 := h1 c q
          have w2 := h1 f f3
          show - g' c ≤ - g' f
          omega
        · have w := h2 f f3
          show - g' c ≤ - g' f
          rw [q]
          omega
    · by_cases y : c = e
      · rw [y, pk_un hle, pk_us]
        refine ud_mx_none (fun d ⟨a, b⟩ => ?_)
        have b' : - g' d < - g' e := b
        rcases ud_ad_i.mp a with q | q
        · have := h2 d q
          omega
        · rw [q] at b'
          omega
      · have uc : U c = true := by
          rcases ud_ad_i.mp hc with q | q
          · exact q
          · exact absurd q y
        by_cases x : c = l
        · rw [x, pk_us]
          refine ud_mx_new h24 ⟨ud_ad_i.mpr (Or.inr rfl), ?_⟩ (fun d ⟨a, b⟩ => ?_)
          · have := h2 l l3
            show - g' e < - g' l
            omega
          · have b' : - g' d < - g' l := b
            show - g' d ≤ - g' e
            rcases ud_ad_i.mp a with q | q
            · have w1 := h1 d q
              have w2 := h1 l l3
              have w3 := l4 d q
              omega
            · rw [q]; omega
        · rw [pk_un x, pk_un y]
          rcases h.2 c uc with ⟨_, q⟩ | ⟨d, d1, d2, d3, d4⟩
          · exfalso
            refine q l ⟨l3, ?_⟩
            have w1 := l4 c uc
            have w2 : g c ≠ g l := fun t => x (inj c l uc l3 t)
            show - g l < - g c
            omega
          · have d5 : - g d < - g c := d3.2
            have w1 := h1 d d3.1
            have w2 := h1 c uc
            refine Or.inr ⟨d, d1, d2, ⟨ud_ad_i.mpr (Or.inl d3.1), by show - g' d < - g' c; omega⟩, fun b ⟨b1, b2⟩ => ?_⟩
            have b3 : - g' b < - g' c := b2
            show - g' b ≤ - g' d
            rcases ud_ad_i.mp b1 with q | q
            · have w3 := h1 b q
              have w4 : - g b ≤ - g d := d4 b ⟨q, by show - g b < - g c; omega⟩
              omega
            · have w5 := h2 d d3.1
              rw [q]; omega
/-! ===== the chains of the rows ===== -/
def ud_Rw (U : Nat → Bool) (g : Nat → Int) (nw ro orr : Nat → Int32) : Prop :=
  (∀ r, r < 8 → ud_Mx (fun d => U d = true ∧ ro d = nI r) g (nw r)) ∧ (∀ c, U c = true → ud_Mx (fun d => U d = true ∧ ro d = ro c ∧ g d < g c) g (orr c))
theorem ud_rw_pop {U : Nat → Bool} {g : Nat → Int} {nw ro orr : Nat → Int32} {e r : Nat} (hU : ∀ c, U c = true → c < 24) (inj : ∀ c d, U c = true → U d = true → g c = g d → c = d) (he : U e = true) (hr : r < 8) (hro : ro e = nI r) (hnw : nw r = nI e) (h : ud_Rw U g nw ro orr) :
    ud_Rw (ud_rm U e) g (upd nw r (orr e)) ro orr := by
  have m := h.1 r hr
  rw [hnw] at m
  obtain ⟨_, top⟩ := ud_mx_at (hU e he) m
  refine ⟨fun r' hr' => ?_, fun c hc => ?_⟩
  · by_cases y : r' = r
    · rw [y, pk_us]
      refine ud_mx_cg (fun d => ud_eq1) (ud_mx_top (S := fun d => U d = true ∧ ro d = nI r) (e := e) (fun d hd ed => inj d e hd.1 he ed) top (ud_mx_cg (fun d => ?_) (h.2 e he)))
      rw [hro]
      exact ⟨fun ⟨a, b, c⟩ => ⟨⟨a, b⟩, c⟩, fun ⟨⟨a, b⟩, c⟩ => ⟨a, b, c⟩⟩
    · rw [pk_un y]
      refine ud_mx_cg (fun d => ?_) (h.1 r' hr')
      constructor
      · intro ⟨a, b⟩
        refine ⟨ud_rm_i.mpr ⟨a, fun q => y ?_⟩, b⟩
        rw [q, hro] at b
        exact (ud_inj (by omega) (by omega) b).symm
      · intro ⟨a, b⟩
        exact ⟨(ud_rm_i.mp a).1, b⟩
  · obtain ⟨uc, ce⟩ := ud_rm_i.mp hc
    refine ud_mx_cg (fun d => ud_eq1) (ud_mx_ne (e := e) (h.2 c uc) ?_)
    intro q
    have w := h.2 c uc
    rw [q] at w
    obtain ⟨w1, _⟩ := ud_mx_at (hU e he) w
    have w2 : ro e = ro c := w1.2.1
    have w3 : g e < g c := w1.2.2
    have w4 := top c ⟨uc, by rw [← w2]; exact hro⟩
    omega
theorem ud_mx_drop {S : Nat → Prop} {g : Nat → Int} {e : Nat} {x x' : Int32} (h24 : e < 24) (inj : ∀ c, S c → g c = g e → c = e) (hm : ∀ c, S c → g e ≤ g c) (hx : x' = if x = nI e then -1 else x) (m : ud_Mx S g x) : ud_Mx (fun c => S c ∧ c ≠ e) g x' := by
  by_cases z : x = nI e
  · rw [hx, if_pos z]
    rw [z] at m
    exact ud_mx_bot inj (ud_mx_at h24 m).2 hm
  · rw [hx, if_neg z]
    exact ud_mx_ne m z
theorem ud_rw_drop {U : Nat → Bool} {g : Nat → Int} {nw ro orr nw' orr' : Nat → Int32} {e : Nat} (hU : ∀ c, U c = true → c < 24) (inj : ∀ c d, U c = true → U d = true → g c = g d → c = d) (he : U e = true) (hm : ∀ c, U c = true → g e ≤ g c) (hn : ∀ r, r < 8 → nw' r = if nw r = nI e then -1 else nw r) (ho : ∀ c, U c = true → orr' c = if orr c = nI e then -1 else orr c) (h : ud_Rw U g nw ro orr) :
    ud_Rw (ud_rm U e) g nw' ro orr' := by
  refine ⟨fun r hr => ?_, fun c hc => ?_⟩
  · exact ud_mx_cg (fun d => ud_eq1) (ud_mx_drop (hU e he) (fun d hd ed => inj d e hd.1 he ed) (fun d hd => hm d hd.1) (hn r hr) (h.1 r hr))
  · obtain ⟨uc, ce⟩ := ud_rm_i.mp hc
    exact ud_mx_cg (fun d => ud_eq1) (ud_mx_drop (hU e he) (fun d hd ed => inj d e hd.1 he ed) (fun d hd => hm d hd.1) (ho c uc) (h.2 c uc))
theorem ud_rw_note {U : Nat → Bool} {g g' : Nat → Int} {nw ro orr : Nat → Int32} {e r : Nat} (h24 : e < 24) (he : U e = false) (hr : r < 8) (h1 : ∀ c, U c = true → g' c = g c) (h2 : ∀ c, U c = true → g' c < g' e) (h : ud_Rw U g nw ro orr) :
    ud_Rw (ud_ad U e) g' (upd nw r (nI e)) (upd ro e (nI r)) (upd orr e (nw r)) := by
  have hne : ∀ c, U c = true → c ≠ e := fun c uc q => by rw [q, he] at uc; exact absurd uc (by decide)
  refine ⟨fun r' hr' => ?_, fun c hc => ?_⟩
  · by_cases y : r' = r
    · rw [y, pk_us]
      refine ud_mx_new h24 ⟨ud_ad_i.mpr (Or.inr rfl), pk_us⟩ (fun c ⟨a, b⟩ => ?_)
      rcases ud_ad_i.mp a with q | q
      · have := h2 c q
        omega
      · rw [q]; exact Int.le_refl _
    · rw [pk_un y]
      refine ud_mx_cg (fun d => ?_) (ud_mx_g (g' := g') (fun d hd => (h1 d hd.1).symm) (h.1 r' hr'))
      constructor
      · intro ⟨a, b⟩
        exact ⟨ud_ad_i.mpr (Or.inl a), by rw [pk_un (hne d a)]; exact b⟩
      · intro ⟨a, b⟩
        rcases ud_ad_i.mp a with q | q
        · rw [pk_un (hne d q)] at b
          exact ⟨q, b⟩
        · rw [q, pk_us] at b
          exact absurd (ud_inj (by omega) (by omega) b).symm y
  · by_cases y : c = e
    · rw [y, pk_us, pk_us]
      refine ud_mx_cg (fun d => ?_) (ud_mx_g (g' := g') (fun d hd => (h1 d hd.1).symm) (h.1 r hr))
      constructor
      · intro ⟨a, b⟩
        exact ⟨ud_ad_i.mpr (Or.inl a), by rw [pk_un (hne d a)]; exact b, h2 d a⟩
      · intro ⟨a, b, b2⟩
        rcases ud_ad_i.mp a with q | q
        · rw [pk_un (hne d q)] at b
          exact ⟨q, b⟩
        · rw [q] at b2
          exact absurd b2 (Int.lt_irrefl _)
    · have uc : U c = true := by
        rcases ud_ad_i.mp hc with q | q
        · exact q
        · exact absurd q y
      rw [pk_un y, pk_un y]
      refine ud_mx_cg (fun d => ?_) (ud_mx_g (g' := g') (fun d hd => (h1 d hd.1).symm) (h.2 c uc))
      constructor
      · intro ⟨a, b, b2⟩
        exact ⟨ud_ad_i.mpr (Or.inl a), by rw [pk_un (hne d a)]; exact b, by rw [h1 d a, h1 c uc]; exact b2⟩
      · intro ⟨a, b, b2⟩
        rcases ud_ad_i.mp a with q | q
        · rw [pk_un (hne d q)] at b
          exact ⟨q, b, by rw [← h1 d q, ← h1 c uc]; exact b2⟩
        · rw [q] at b2
          have := h2 c uc
          omega
/-! ===== the counts ===== -/
def ud_Ct (U : Nat → Bool) (pl : Nat → Int32) (count : Int32) (ch : Nat → Int32) : Prop :=
  count = nI (ud_cn U 24) ∧ ∀ p, p < 32 → ch p = nI (ud_cn (fun c => U c && decide (pl c = nI p)) 24)
theorem ud_ct_rm {U : Nat → Bool} {pl ch : Nat → Int32} {count : Int32} {e p : Nat} (h24 : e < 24) (he : U e = true) (hp : p < 32) (hpl : pl e = nI p) (h : ud_Ct U pl count ch) :
    ud_Ct (ud_rm U e) pl (count - 1) (upd ch p (ch p - 1)) := by
  have re : ud_rm U e e = false := by
    unfold ud_rm
    rw [decide_eq_true rfl]
    exact Bool.and_false _
  have rn : ∀ j, j ≠ e → U j = ud_rm U e j := fun j hj => by
    unfold ud_rm
    rw [decide_eq_false hj]
    exact (Bool.and_true _).symm
  refine ⟨?_, fun q hq => ?_⟩
  · rw [h.1, ud_cn_add re he rn 24 h24, nI_pred]
  · by_cases y : q = p
    · rw [y, pk_us, h.2 p hp]
      rw [ud_cn_add (f := fun c => ud_rm U e c && decide (pl c = nI p)) (g := fun c => U c && decide (pl c = nI p)) (e := e) (by show (ud_rm U e e && decide (pl e = nI p)) = false; rw [re]; rfl) (by show (U e && decide (pl e = nI p)) = true; rw [he, decide_eq_true hpl]; rfl) (fun j hj => by show (U j && _) = (ud_rm U e j && _); rw [rn j hj]) 24 h24, nI_pred]
    · rw [pk_un y, h.2 q hq]
      refine congrArg nI (ud_cn_cg 24 (fun c _ => ?_))
      show (U c && _) = (ud_rm U e c && _)
      by_cases z : c = e
      · rw [z, hpl, decide_eq_false (fun t => y (ud_inj (by omega) (by omega) t).symm), Bool.and_false, Bool.and_false]
      · rw [rn c z]
theorem ud_ct_ad {U : Nat → Bool} {pl ch : Nat → Int32} {count : Int32} {e p : Nat} (h24 : e < 24) (he : U e = false) (hp : p < 32) (h : ud_Ct U pl count ch) :
    ud_Ct (ud_ad U e) (upd pl e (nI p)) (count + 1) (upd ch p (ch p + 1)) := by
  have re : ud_ad U e e = true := ud_ad_i.mpr (Or.inr rfl)
  have rn : ∀ j, j ≠ e → ud_ad U e j = U j := fun j hj => by
    unfold ud_ad
    rw [decide_eq_false hj]
    exact Bool.or_false _
  refine ⟨?_, fun q hq => ?_⟩
  · rw [h.1, ud_cn_add he re rn 24 h24, nI_1]
  · by_cases y : q = p
    · rw [y, pk_us, h.2 p hp]
      rw [ud_cn_add (f := fun c => U c && decide (pl c = nI p)) (g := fun c => ud_ad U e c && decide (upd pl e (nI p) c = nI p)) (e := e) (by show (U e && _) = false; rw [he]; rfl) (by show (ud_ad U e e && decide (upd pl e (nI p) e = nI p)) = true; rw [re, decide_eq_true pk_us]; rfl) (fun j hj => by show (ud_ad U e j && decide (upd pl e (nI p) j = nI p)) = (U j && decide (pl j = nI p)); rw [rn j hj, pk_un hj]) 24 h24, nI_1]
    · rw [pk_un y, h.2 q hq]
      refine congrArg nI (ud_cn_cg 24 (fun c _ => ?_))
      show (U c && decide (pl c = nI q)) = (ud_ad U e c && decide (upd pl e (nI p) c = nI q))
      by_cases z : c = e
      · rw [z, he, re, pk_us, decide_eq_false (show ¬ nI p = nI q from fun t => y (ud_inj (by omega) (by omega) t).symm)]
        rfl
      · rw [rn c z, pk_un z]
end
section
/-! ===== the component's small methods ===== -/
def ud_ps (g : Nat → Nat) : Nat → Int := fun c => (g c : Int)
def ud_gs (g : Nat → Nat) (e t : Nat) : Nat → Nat := fun c => if c = e then t else g c
def ud_XL (U : Nat → Bool) (g : Nat → Nat) (used first last count : Int32) (ro pl oa na ch : Nat → Int32) : Prop :=
  (∀ c, U c = true → c < 24) ∧ (∀ c, c < 24 → bt used c = U c) ∧ (∀ c d, U c = true → U d = true → g c = g d → c = d) ∧
  (∀ c, U c = true → ∃ r, r < 8 ∧ ro c = nI r) ∧ (∀ c, U c = true → ∃ p, p < 32 ∧ pl c = nI p) ∧
  ud_Ct U pl count ch ∧ ud_Hf U (ud_ps g) last oa ∧ ud_Hf U (fun c => - ud_ps g c) first na
section
variable {f_used f_first f_last f_count f_taken f_now : Int32} {a_values a_newest a_forgotten a_rowOf a_oldValue a_placeOf a_olderOfRow a_olderOfAll a_newerOfAll a_changesOf a_numberOf a_openPlace : Nat → Int32} {U : Nat → Bool} {g : Nat → Nat}
theorem ud_isOpen {post : Int32 → Prop} {p : Nat} (hp : p < 32) (h1 : a_numberOf p = 0 → post 1) (h0 : ¬ a_numberOf p = 0 → post 0) : wpX_isOpen post (f_used, f_first, f_last, f_count, f_taken, f_now, a_values, a_newest, a_forgotten, a_rowOf, a_oldValue, a_placeOf, a_olderOfRow, a_olderOfAll, a_newerOfAll, a_changesOf, a_numberOf, a_openPlace) (nI p) := by
  refine And.intro (vp_in_nI hp (by decide)) ?_
  rw [ud_cl (by omega)]
  exact br_c h1 h0
theorem ud_lockOf {post : Int32 → Prop} {r : Nat} (hr : r < 8) (h : (a_newest r = -1 ∧ post (-1)) ∨ (∃ c p, c < 24 ∧ p < 32 ∧ a_newest r = nI c ∧ a_placeOf c = nI p ∧ (a_numberOf p = 0 → post (nI p)) ∧ (¬ a_numberOf p = 0 → post (-1)))) : wpX_lockOf post (f_used, f_first, f_last, f_count, f_taken, f_now, a_values, a_newest, a_forgotten, a_rowOf, a_oldValue, a_placeOf, a_olderOfRow, a_olderOfAll, a_newerOfAll, a_changesOf, a_numberOf, a_openPlace) (nI r) := by
  refine And.intro (vp_in_nI hr (by decide)) ?_
  rw [ud_cl (by omega)]
  intro x ex
  subst ex
  rcases h with ⟨h1, h2⟩ | ⟨c, p, hc, hp, h1, h2, h3, h4⟩
  · rw [h1]
    exact br_t ud_m1neg h2
  · rw [h1]
    refine br_f (nI_pos (by omega)) ⟨vp_in_nI hc (by decide), ?_⟩
    rw [ud_cl (by omega), h2]
    exact ud_isOpen hp (fun z => br_f (by decide) ⟨vp_in_nI hc (by decide), h3 z⟩) (fun z => br_t rfl (h4 z))
theorem ud_fp2 {post : Int32 → Prop} (hf : ∃ p, p < 32 ∧ bt f_taken p = false) (K : ∀ p, p < 32 → bt f_taken p = false → post (nI p)) : ∀ n i, i ≤ 32 → 32 < n + i → (∀ j, j < i → bt f_taken j = true) → wX_freePlace_2 post f_used f_first f_last f_count f_taken f_now a_values a_newest a_forgotten a_rowOf a_oldValue a_placeOf a_olderOfRow a_olderOfAll a_newerOfAll a_changesOf a_numberOf a_openPlace n (nI i) := by
  intro n
  induction n with
  | zero => intro i h1 h2; omega
  | succ n ih =>
    intro i h1 h2 h3
    unfold wX_freePlace_2
    by_cases z : i = 32
    · obtain ⟨p, hp, hb⟩ := hf
      rw [h3 p (by omega)] at hb
      exact absurd hb (by decide)
    · refine br_f (nI_ge (b := 32) (by omega) (by decide)) ?_
      by_cases y : bt f_taken i = false
      · exact br_t ((ud_bitU f_taken (by omega)).mpr y) (K i (by omega) y)
      · refine br_f (fun q => y ((ud_bitU f_taken (by omega)).mp q)) ?_
        intro x ex
        rw [ex, nI_1]
        refine ih (i + 1) (by omega) (by omega) (fun j hj => ?_)
        by_cases w : j = i
        · rw [w]; exact ud_nf y
        · exact h3 j (by omega)
theorem ud_freePlace {post : Int32 → Prop} (hf : ∃ p, p < 32 ∧ bt f_taken p = false) (K : ∀ p, p < 32 → bt f_taken p = false → post (nI p)) : wpX_freePlace post (f_used, f_first, f_last, f_count, f_taken, f_now, a_values, a_newest, a_forgotten, a_rowOf, a_oldValue, a_placeOf, a_olderOfRow, a_olderOfAll, a_newerOfAll, a_changesOf, a_numberOf, a_openPlace) := by
  refine ⟨33, ?_⟩
  exact ud_fp2 hf K 33 0 (by omega) (by omega) (fun j hj => by omega)
theorem ud_open {post : SX → Prop} {x : Nat} (hx : x < 4) (hf : ∃ p, p < 32 ∧ bt f_taken p = false) (K : ∀ p, p < 32 → bt f_taken p = false → post (f_used, f_first, f_last, f_count, f_taken ||| ((1 : Int32) <<< (nI p &&& 31)), f_now, a_values, a_newest, a_forgotten, a_rowOf, a_oldValue, a_placeOf, a_olderOfRow, a_olderOfAll, a_newerOfAll, upd a_changesOf p 0, upd a_numberOf p 0, upd a_openPlace x (nI p))) : wpX_open post (f_used, f_first, f_last, f_count, f_taken, f_now, a_values, a_newest, a_forgotten, a_rowOf, a_oldValue, a_placeOf, a_olderOfRow, a_olderOfAll, a_newerOfAll, a_changesOf, a_numberOf, a_openPlace) (nI x) := by
  unfold wpX_open
  refine ud_freePlace hf (fun p hp hb => ?_)
  intro tk etk
  refine ⟨vp_in_nI hp (by decide), ?_⟩
  intro ch ech
  refine ⟨vp_in_nI hp (by decide), ?_⟩
  intro nu enu
  refine ⟨vp_in_nI hx (by decide), ?_⟩
  intro op eop
  rw [ud_cl (by omega)] at ech enu eop
  rw [ud_nar (x := 0) (by decide)] at ech
  rw [ud_nar2 (ud_by8 p (by omega))] at eop
  subst etk ech enu eop
  exact K p hp hb
/-! unlink -/
theorem ud_unl54 {post : SX → Prop} {e p k : Nat} (h24 : e < 24) (hp : p < 32) (hpl : a_placeOf e = nI p) (hk : k < 128) (hck : a_changesOf p - 1 = nI k) (K : ∀ tk, tk = (if a_changesOf p - 1 = 0 ∧ ¬ a_numberOf p = 0 then f_taken &&& (((1 : Int32) <<< (nI p &&& 31)) ^^^ (-1)) else f_taken) → post (f_used &&& (((1 : Int32) <<< (nI e &&& 31)) ^^^ (-1)), f_first, f_last, f_count - 1, tk, f_now, a_values, a_newest, a_forgotten, a_rowOf, a_oldValue, a_placeOf, a_olderOfRow, a_olderOfAll, a_newerOfAll, upd a_changesOf p (a_changesOf p - 1), a_numberOf, a_openPlace)) : wX_unlink_54 post (nI e) f_used f_first f_last f_count f_taken f_now a_values a_newest a_forgotten a_rowOf a_oldValue a_placeOf a_olderOfRow a_olderOfAll a_newerOfAll a_changesOf a_numberOf a_openPlace := by
  unfold wX_unlink_54
  intro us eus co eco
  refine ⟨vp_in_nI h24 (by decide), ?_⟩
  rw [ud_cl (by omega), hpl]
  intro x4 ex4
  subst ex4
  refine ⟨vp_in_nI hp (by decide), vp_in_nI hp (by decide), ?_⟩
  intro ch ech
  refine ⟨vp_in_nI hp (by decide), ?_⟩
  rw [ud_cl (by omega)] at ech
  rw [ud_cl (by omega)]
  rw [ud_nar2 (x := a_changesOf p - 1) (by rw [hck]; exact ud_by8 k hk)] at ech
  subst ech eus eco
  rw [pk_us]
  by_cases z : a_changesOf p - 1 = 0
  · refine br_t z ?_
    refine ud_isOpen hp (fun y => ?_) (fun y => ?_)
    · refine br_f (by decide) ?_
      exact K _ (by rw [if_neg (fun q => q.2 y)])
    · refine br_t rfl ?_
      intro tk etk
      exact K tk (by rw [if_pos ⟨z, y⟩]; exact etk)
  · refine br_f z ?_
    exact K _ (by rw [if_neg (fun q => z q.1)])
theorem ud_ng_ng (g : Nat → Nat) : (fun c => - (- ud_ps g c)) = ud_ps g := by
  funext c
  exact Int.neg_neg _
theorem ud_xl_unl {e p : Nat} (h : ud_XL U g f_used f_first f_last f_count a_rowOf a_placeOf a_olderOfAll a_newerOfAll a_changesOf) (he : U e = true) (hp : p < 32) (hpl : a_placeOf e = nI p) :
    ud_XL (ud_rm U e) g (f_used &&& (((1 : Int32) <<< (nI e &&& 31)) ^^^ (-1))) (if a_olderOfAll e < 0 then a_newerOfAll e else f_first) (if a_newerOfAll e < 0 then a_olderOfAll e else f_last) (f_count - 1) a_rowOf a_placeOf (if a_newerOfAll e < 0 then a_olderOfAll else upd a_olderOfAll (a_newerOfAll e).toNatClampNeg (a_olderOfAll e)) (if a_olderOfAll e < 0 then a_newerOfAll else upd a_newerOfAll (a_olderOfAll e).toNatClampNeg (a_newerOfAll e)) (upd a_changesOf p (a_changesOf p - 1)) := by
  obtain ⟨hU, hb, hi, hr, hq, hc, h1, h2⟩ := h
  have inj1 : ∀ c d, U c = true → U d = true → ud_ps g c = ud_ps g d → c = d := fun c d uc ud q => hi c d uc ud (Int.ofNat.inj q)
  have inj2 : ∀ c d, U c = true → U d = true → - ud_ps g c = - ud_ps g d → c = d := fun c d uc ud q => inj1 c d uc ud (by omega)
  refine ⟨fun c uc => hU c (ud_rm_i.mp uc).1, fun c hc' => ?_, fun c d uc ud q => hi c d (ud_rm_i.mp uc).1 (ud_rm_i.mp ud).1 q, fun c uc => hr c (ud_rm_i.mp uc).1, fun c uc => hq c (ud_rm_i.mp uc).1, ud_ct_rm (hU e he) he hp hpl hc, ?_, ?_⟩
  · have := hU e he
    rw [ud_clr f_used (by omega) (by omega), hb c hc']
    rfl
  · exact ud_hf_unl hU inj1 he h1 h2
  · refine ud_hf_unl (first := f_last) hU inj2 he h2 ?_
    rw [ud_ng_ng]
    exact h1
theorem ud_unlink {post : SX → Prop} {e p : Nat} (h : ud_XL U g f_used f_first f_last f_count a_rowOf a_placeOf a_olderOfAll a_newerOfAll a_changesOf) (he : U e = true) (hp : p < 32) (hpl : a_placeOf e = nI p)
    (K : ∀ us fi la co tk oa na ch, ud_XL (ud_rm U e) g us fi la co a_rowOf a_placeOf oa na ch → tk = (if ch p = 0 ∧ ¬ a_numberOf p = 0 then f_taken &&& (((1 : Int32) <<< (nI p &&& 31)) ^^^ (-1)) else f_taken) → post (us, fi, la, co, tk, f_now, a_values, a_newest, a_forgotten, a_rowOf, a_oldValue, a_placeOf, a_olderOfRow, oa, na, ch, a_numberOf, a_openPlace)) : wpX_unlink post (f_used, f_first, f_last, f_count, f_taken, f_now, a_values, a_newest, a_forgotten, a_rowOf, a_oldValue, a_placeOf, a_olderOfRow, a_olderOfAll, a_newerOfAll, a_changesOf, a_numberOf, a_openPlace) (nI e) := by
  have hX := ud_xl_unl h he hp hpl
  obtain ⟨hU, hb, hi, hr, hq, hc, h1, h2⟩ := h
  have h24 := hU e he
  have mo := h1.2 e he
  have mn := h2.2 e he
  obtain ⟨k, hk, hck⟩ : ∃ k, k < 128 ∧ a_changesOf p - 1 = nI k := by
    have q := hX.2.2.2.2.2.1.2 p hp
    rw [pk_us] at q
    have := ud_cn_le (fun c => ud_rm U e c && decide (a_placeOf c = nI p)) 24
    exact ⟨_, by omega, q⟩
  unfold wpX_unlink
  refine And.intro (vp_in_nI h24 (by decide)) ?_
  rw [ud_cl (by omega)]
  intro x2 e2
  refine ⟨vp_in_nI h24 (by decide), ?_⟩
  intro x3 e3
  subst e2 e3
  by_cases z : a_olderOfAll e < 0
  · refine br_t z ?_
    unfold wX_unlink_34
    by_cases y : a_newerOfAll e < 0
    · refine br_t y (ud_unl54 h24 hp hpl hk hck (fun tk et => ?_))
      rw [if_pos z, if_pos y, if_pos y, if_pos z] at hX
      exact K _ _ _ _ _ _ _ _ hX (by rw [pk_us]; exact et)
    · refine br_f y ?_
      obtain ⟨n, n1, n2, _⟩ := ud_mx_nn mn y
      refine ⟨by rw [n2]; exact vp_in_nI n1 (by decide), ?_⟩
      intro oa eoa
      rw [ud_nar2 (ud_mx_by mo)] at eoa
      subst eoa
      refine ud_unl54 h24 hp hpl hk hck (fun tk et => ?_)
      rw [if_pos z, if_neg y, if_neg y, if_pos z] at hX
      exact K _ _ _ _ _ _ _ _ hX (by rw [pk_us]; exact et)
  · refine br_f z ?_
    obtain ⟨m, m1, m2, _⟩ := ud_mx_nn mo z
    refine ⟨by rw [m2]; exact vp_in_nI m1 (by decide), ?_⟩
    intro na ena
    rw [ud_nar2 (ud_mx_by mn)] at ena
    subst ena
    unfold wX_unlink_34
    by_cases y : a_newerOfAll e < 0
    · refine br_t y (ud_unl54 h24 hp hpl hk hck (fun tk et => ?_))
      rw [if_neg z, if_pos y, if_pos y, if_neg z] at hX
      exact K _ _ _ _ _ _ _ _ hX (by rw [pk_us]; exact et)
    · refine br_f y ?_
      obtain ⟨n, n1, n2, _⟩ := ud_mx_nn mn y
      refine ⟨by rw [n2]; exact vp_in_nI n1 (by decide), ?_⟩
      intro oa eoa
      rw [ud_nar2 (ud_mx_by mo)] at eoa
      subst eoa
      refine ud_unl54 h24 hp hpl hk hck (fun tk et => ?_)
      rw [if_neg z, if_neg y, if_neg y, if_neg z] at hX
      exact K _ _ _ _ _ _ _ _ hX (by rw [pk_us]; exact et)
/-! forgetFirst -/
theorem ud_ff61 {post : SX → Prop} {e p : Nat} (h : ud_XL U g f_used f_first f_last f_count a_rowOf a_placeOf a_olderOfAll a_newerOfAll a_changesOf) (he : U e = true) (hp : p < 32) (hpl : a_placeOf e = nI p)
    (K : ∀ us fi la co tk orr oa na ch, (∀ c, c < 24 → orr c = if U c = true ∧ a_olderOfRow c = nI e then -1 else a_olderOfRow c) → ud_XL (ud_rm U e) g us fi la co a_rowOf a_placeOf oa na ch → tk = (if ch p = 0 ∧ ¬ a_numberOf p = 0 then f_taken &&& (((1 : Int32) <<< (nI p &&& 31)) ^^^ (-1)) else f_taken) → post (us, fi, la, co, tk, f_now, a_values, a_newest, a_forgotten, a_rowOf, a_oldValue, a_placeOf, orr, oa, na, ch, a_numberOf, a_openPlace)) :
    ∀ n i, i ≤ 24 → 24 < n + i → ∀ o : Nat → Int32, (∀ c, c < 24 → o c = if c < i ∧ U c = true ∧ a_olderOfRow c = nI e then -1 else a_olderOfRow c) → wX_forgetFirst_61 post (nI e) f_used f_first f_last f_count f_taken f_now n (nI i) a_values a_newest a_forgotten a_rowOf a_oldValue a_placeOf o a_olderOfAll a_newerOfAll a_changesOf a_numberOf a_openPlace := by
  intro n
  induction n with
  | zero => intro i h1 h2; omega
  | succ n ih =>
    intro i h1 h2 o ho
    unfold wX_forgetFirst_61
    by_cases z : i = 24
    · subst z
      refine br_t (Int32.le_refl _) ?_
      refine ud_unlink h he hp hpl (fun us fi la co tk oa na ch hx ht => ?_)
      refine K us fi la co tk o oa na ch (fun c hc => ?_) hx ht
      rw [ho c hc]
      by_cases y : U c = true ∧ a_olderOfRow c = nI e
      · rw [if_pos y, if_pos ⟨hc, y⟩]
      · rw [if_neg y, if_neg (fun q => y q.2)]
    · have hb := h.2.1 i (by omega)
      refine br_f (nI_ge (b := 24) (by omega) (by decide)) ?_
      by_cases y : bt f_used i = false
      · refine br_t ((ud_bitS f_used (by omega)).mpr y) ?_
        intro x ex
        rw [ex, nI_1]
        refine ih (i + 1) (by omega) (by omega) o (fun c hc => ?_)
        rw [ho c hc]
        by_cases w : c = i
        · have hu : ¬ U c = true := by rw [w, ← hb, y]; decide
          rw [if_neg (fun q => hu q.2.1), if_neg (fun q => hu q.2.1)]
        · by_cases v : c < i ∧ U c = true ∧ a_olderOfRow c = nI e
          · rw [if_pos v, if_pos ⟨by omega, v.2⟩]
          · rw [if_neg v, if_neg (fun q => v ⟨by omega, q.2⟩)]
      · have hu : U i = true := by rw [← hb]; exact ud_nf y
        refine br_f (fun q => y ((ud_bitS f_used (by omega)).mp q)) ⟨vp_in_nI (by omega) (by decide), ?_⟩
        rw [ud_cl (by omega)]
        have hoi : o i = a_olderOfRow i := by rw [ho i (by omega), if_neg (fun q => absurd q.1 (Nat.lt_irrefl _))]
        by_cases x : o i = nI e
        · refine br_t x ⟨vp_in_nI (by omega) (by decide), ?_⟩
          intro o2 eo2 x4 ex4
          rw [ex4, nI_1]
          refine ih (i + 1) (by omega) (by omega) o2 (fun c hc => ?_)
          rw [eo2, ud_narm]
          by_cases w : c = i
          · rw [w, pk_us, if_pos ⟨by omega, hu, by rw [← hoi]; exact x⟩]
          · rw [pk_un w, ho c hc]
            by_cases v : c < i ∧ U c = true ∧ a_olderOfRow c = nI e
            · rw [if_pos v, if_pos ⟨by omega, v.2⟩]
            · rw [if_neg v, if_neg (fun q => v ⟨by omega, q.2⟩)]
        · refine br_f x ?_
          intro x4 ex4
          rw [ex4, nI_1]
          refine ih (i + 1) (by omega) (by omega) o (fun c hc => ?_)
          rw [ho c hc]
          by_cases w : c = i
          · rw [w, if_neg (fun q => absurd q.1 (Nat.lt_irrefl _)), if_neg (fun q => x (by rw [hoi]; exact q.2.2))]
          · by_cases v : c < i ∧ U c = true ∧ a_olderOfRow c = nI e
            · rw [if_pos v, if_pos ⟨by omega, v.2⟩]
            · rw [if_neg v, if_neg (fun q => v ⟨by omega, q.2⟩)]
theorem ud_ff41 {post : SX → Prop} {e p r : Nat} (h : ud_XL U g f_used f_first f_last f_count a_rowOf a_placeOf a_olderOfAll a_newerOfAll a_changesOf) (hw : ud_Rw U (ud_ps g) a_newest a_rowOf a_olderOfRow) (he : U e = true) (hm : ∀ c, U c = true → g e ≤ g c) (hp : p < 32) (hpl : a_placeOf e = nI p) (hr : r < 8) (hro : a_rowOf e = nI r)
    (K : ∀ us fi la co tk nw orr oa na ch, ud_XL (ud_rm U e) g us fi la co a_rowOf a_placeOf oa na ch → ud_Rw (ud_rm U e) (ud_ps g) nw a_rowOf orr → tk = (if ch p = 0 ∧ ¬ a_numberOf p = 0 then f_taken &&& (((1 : Int32) <<< (nI p &&& 31)) ^^^ (-1)) else f_taken) → post (us, fi, la, co, tk, f_now, a_values, nw, a_forgotten, a_rowOf, a_oldValue, a_placeOf, orr, oa, na, ch, a_numberOf, a_openPlace)) : wX_forgetFirst_41 post (nI e) (nI r) f_used f_first f_last f_count f_taken f_now a_values a_newest a_forgotten a_rowOf a_oldValue a_placeOf a_olderOfRow a_olderOfAll a_newerOfAll a_changesOf a_numberOf a_openPlace := by
  have hU := h.1
  have inj1 : ∀ c d, U c = true → U d = true → ud_ps g c = ud_ps g d → c = d := fun c d uc ud q => h.2.2.1 c d uc ud (Int.ofNat.inj q)
  have h24 := hU e he
  unfold wX_forgetFirst_41
  refine ⟨vp_in_nI hr (by decide), ?_⟩
  rw [ud_cl (by omega)]
  have hoth : ∀ r', r' < 8 → r' ≠ r → ¬ a_newest r' = nI e := fun r' hr' hn q => by
    have w := hw.1 r' hr'
    rw [q] at w
    have w2 := (ud_mx_at h24 w).1.2
    rw [hro] at w2
    exact hn (ud_inj (by omega) (by omega) w2).symm
  by_cases z : a_newest r = nI e
  · refine br_t z ⟨vp_in_nI hr (by decide), ?_⟩
    intro nw enw
    rw [ud_narm] at enw
    refine ⟨25, ?_⟩
    refine ud_ff61 h he hp hpl (fun us fi la co tk orr oa na ch h1 h2 h3 => ?_) 25 0 (by omega) (by omega) a_olderOfRow (fun c hc => by rw [if_neg (fun q => absurd q.1 (Nat.not_lt_zero _))])
    refine K us fi la co tk nw orr oa na ch h2 ?_ h3
    refine ud_rw_drop (nw := a_newest) (orr := a_olderOfRow) hU inj1 he (fun c uc => Int.ofNat_le.mpr (hm c uc)) (fun r' hr' => ?_) (fun c uc => ?_) hw
    · rw [enw]
      by_cases y : r' = r
      · rw [y, pk_us, if_pos z]
      · rw [pk_un y, if_neg (hoth r' hr' y)]
    · rw [h1 c (hU c uc)]
      by_cases y : a_olderOfRow c = nI e
      · rw [if_pos y, if_pos ⟨uc, y⟩]
      · rw [if_neg y, if_neg (fun q => y q.2)]
  · refine br_f z ?_
    refine ⟨25, ?_⟩
    refine ud_ff61 h he hp hpl (fun us fi la co tk orr oa na ch h1 h2 h3 => ?_) 25 0 (by omega) (by omega) a_olderOfRow (fun c hc => by rw [if_neg (fun q => absurd q.1 (Nat.not_lt_zero _))])
    refine K us fi la co tk a_newest orr oa na ch h2 ?_ h3
    refine ud_rw_drop (nw := a_newest) (orr := a_olderOfRow) hU inj1 he (fun c uc => Int.ofNat_le.mpr (hm c uc)) (fun r' hr' => ?_) (fun c uc => ?_) hw
    · by_cases y : r' = r
      · rw [y, if_neg z]
      · rw [if_neg (hoth r' hr' y)]
    · rw [h1 c (hU c uc)]
      by_cases y : a_olderOfRow c = nI e
      · rw [if_pos y, if_pos ⟨uc, y⟩]
      · rw [if_neg y, if_neg (fun q => y q.2)]
theorem ud_forget {post : SX → Prop} {e p r : Nat} (h : ud_XL U g f_used f_first f_last f_count a_rowOf a_placeOf a_olderOfAll a_newerOfAll a_changesOf) (hw : ud_Rw U (ud_ps g) a_newest a_rowOf a_olderOfRow) (he : U e = true) (hm : ∀ c, U c = true → g e ≤ g c) (hf : f_first = nI e) (hp : p < 32) (hpl : a_placeOf e = nI p) (hr : r < 8) (hro : a_rowOf e = nI r)
    (K : ∀ us fi la co tk nw fo orr oa na ch, ud_XL (ud_rm U e) g us fi la co a_rowOf a_placeOf oa na ch → ud_Rw (ud_rm U e) (ud_ps g) nw a_rowOf orr → fo = (if a_numberOf p ≤ a_forgotten r then a_forgotten else upd a_forgotten r (a_numberOf p)) → tk = (if ch p = 0 ∧ ¬ a_numberOf p = 0 then f_taken &&& (((1 : Int32) <<< (nI p &&& 31)) ^^^ (-1)) else f_taken) → post (us, fi, la, co, tk, f_now, a_values, nw, fo, a_rowOf, a_oldValue, a_placeOf, orr, oa, na, ch, a_numberOf, a_openPlace)) : wpX_forgetFirst post (f_used, f_first, f_last, f_count, f_taken, f_now, a_values, a_newest, a_forgotten, a_rowOf, a_oldValue, a_placeOf, a_olderOfRow, a_olderOfAll, a_newerOfAll, a_changesOf, a_numberOf, a_openPlace) := by
  have h24 := h.1 e he
  subst hf
  unfold wpX_forgetFirst
  refine And.intro (vp_in_nI h24 (by decide)) ?_
  rw [ud_cl (by omega), hro, hpl]
  intro x2 e2
  subst e2
  refine ⟨vp_in_nI h24 (by decide), vp_in_nI hp (by decide), ?_⟩
  intro x3 e3
  rw [ud_cl (by omega)] at e3
  subst e3
  refine ⟨vp_in_nI hr (by decide), ?_⟩
  rw [ud_cl (by omega)]
  by_cases z : a_numberOf p ≤ a_forgotten r
  · refine br_t z ?_
    refine ud_ff41 h hw he hm hp hpl hr hro (fun us fi la co tk nw orr oa na ch h1 h2 h3 => ?_)
    exact K us fi la co tk nw a_forgotten orr oa na ch h1 h2 (by rw [if_pos z]) h3
  · refine br_f z ⟨vp_in_nI hr (by decide), ?_⟩
    intro fo efo
    refine ud_ff41 h hw he hm hp hpl hr hro (fun us fi la co tk nw orr oa na ch h1 h2 h3 => ?_)
    exact K us fi la co tk nw fo orr oa na ch h1 h2 (by rw [if_neg z]; exact efo) h3
end
end
section
section
variable {f_used f_first f_last f_count f_taken f_now : Int32} {a_values a_newest a_forgotten a_rowOf a_oldValue a_placeOf a_olderOfRow a_olderOfAll a_newerOfAll a_changesOf a_numberOf a_openPlace : Nat → Int32} {U : Nat → Bool} {g : Nat → Nat}
theorem ud_xl_note {e p r t : Nat} (h : ud_XL U g f_used f_first f_last f_count a_rowOf a_placeOf a_olderOfAll a_newerOfAll a_changesOf) (h24 : e < 24) (he : U e = false) (hp : p < 32) (hr : r < 8) (ht : ∀ c, U c = true → g c < t) :
    ud_XL (ud_ad U e) (ud_gs g e t) (f_used ||| ((1 : Int32) <<< (nI e &&& 31))) (if f_last < 0 then nI e else f_first) (nI e) (f_count + 1) (upd a_rowOf e (nI r)) (upd a_placeOf e (nI p)) (upd a_olderOfAll e f_last) (if f_last < 0 then upd a_newerOfAll e (-1) else upd (upd a_newerOfAll e (-1)) f_last.toNatClampNeg (nI e)) (upd a_changesOf p (a_changesOf p + 1)) := by
  obtain ⟨hU, hb, hi, hr', hq, hc, h1, h2⟩ := h
  have inj1 : ∀ c d, U c = true → U d = true → ud_ps g c = ud_ps g d → c = d := fun c d uc ud q => hi c d uc ud (Int.ofNat.inj q)
  have hne : ∀ c, U c = true → c ≠ e := fun c uc q => by rw [q, he] at uc; exact absurd uc (by decide)
  have ge : ud_gs g e t e = t := if_pos rfl
  have go : ∀ c, c ≠ e → ud_gs g e t c = g c := fun c hc => if_neg hc
  have e1 : ∀ c, U c = true → ud_ps (ud_gs g e t) c = ud_ps g c := fun c uc => by
    show ((ud_gs g e t c : Nat) : Int) = (g c : Int)
    rw [go c (hne c uc)]
  have e2 : ∀ c, U c = true → ud_ps (ud_gs g e t) c < ud_ps (ud_gs g e t) e := fun c uc => by
    show ((ud_gs g e t c : Nat) : Int) < ((ud_gs g e t e : Nat) : Int)
    rw [go c (hne c uc), ge]
    exact Int.ofNat_lt.mpr (ht c uc)
  refine ⟨fun c uc => ?_, fun c hc' => ?_, fun c d uc ud q => ?_, fun c uc => ?_, fun c uc => ?_, ud_ct_ad h24 he hp hc, ud_hf_hi h24 e1 e2 h1, ud_hf_lo h24 he inj1 e1 e2 h1.1 h2⟩
  · rcases ud_ad_i.mp uc with q | q
    · exact hU c q
    · rw [q]; exact h24
  · rw [ud_set f_used (by omega) (by omega), hb c hc']
    rfl
  · rcases ud_ad_i.mp uc with a | a <;> rcases ud_ad_i.mp ud with b | b
    · rw [go c (hne c a), go d (hne d b)] at q
      exact hi c d a b q
    · rw [b, go c (hne c a), ge] at q
      have := ht c a
      omega
    · rw [a, go d (hne d b), ge] at q
      have := ht d b
      omega
    · rw [a, b]
  · by_cases y : c = e
    · rw [y, pk_us]; exact ⟨r, hr, rfl⟩
    · rw [pk_un y]
      rcases ud_ad_i.mp uc with q | q
      · exact hr' c q
      · exact absurd q y
  · by_cases y : c = e
    · rw [y, pk_us]; exact ⟨p, hp, rfl⟩
    · rw [pk_un y]
      rcases ud_ad_i.mp uc with q | q
      · exact hq c q
      · exact absurd q y
theorem ud_note25 {post : SX → Prop} {e p r t : Nat} (h : ud_XL U g f_used f_first f_last f_count a_rowOf a_placeOf a_olderOfAll a_newerOfAll a_changesOf) (hw : ud_Rw U (ud_ps g) a_newest a_rowOf a_olderOfRow) (h24 : e < 24) (he : U e = false) (hp : p < 32) (hr : r < 8) (ht : ∀ c, U c = true → g c < t)
    (K : ∀ us fi la co nw orr oa na ch, ud_XL (ud_ad U e) (ud_gs g e t) us fi la co (upd a_rowOf e (nI r)) (upd a_placeOf e (nI p)) oa na ch → ud_Rw (ud_ad U e) (ud_ps (ud_gs g e t)) nw (upd a_rowOf e (nI r)) orr → post (us, fi, la, co, f_taken, f_now, a_values, nw, a_forgotten, upd a_rowOf e (nI r), upd a_oldValue e (a_values r), upd a_placeOf e (nI p), orr, oa, na, ch, a_numberOf, a_openPlace)) : wX_note_25 post (nI r) (nI p) (nI e) f_used f_first f_last f_count f_taken f_now a_values a_newest a_forgotten a_rowOf a_oldValue a_placeOf a_olderOfRow a_olderOfAll a_newerOfAll a_changesOf a_numberOf a_openPlace := by
  have hX := ud_xl_note (t := t) h h24 he hp hr ht
  obtain ⟨hU, hb, hi, hr', hq, hc, h1, h2⟩ := h
  have hne : ∀ c, U c = true → c ≠ e := fun c uc q => by rw [q, he] at uc; exact absurd uc (by decide)
  have ge : ud_gs g e t e = t := if_pos rfl
  have go : ∀ c, c ≠ e → ud_gs g e t c = g c := fun c hc => if_neg hc
  have hW : ud_Rw (ud_ad U e) (ud_ps (ud_gs g e t)) (upd a_newest r (nI e)) (upd a_rowOf e (nI r)) (upd a_olderOfRow e (a_newest r)) := by
    refine ud_rw_note h24 he hr (fun c uc => ?_) (fun c uc => ?_) hw
    · show ((ud_gs g e t c : Nat) : Int) = (g c : Int)
      rw [go c (hne c uc)]
    · show ((ud_gs g e t c : Nat) : Int) < ((ud_gs g e t e : Nat) : Int)
      rw [go c (hne c uc), ge]
      exact Int.ofNat_lt.mpr (ht c uc)
  have hck : (a_changesOf p + 1).toInt8.toInt32 = a_changesOf p + 1 := by
    have q := hX.2.2.2.2.2.1.2 p hp
    rw [pk_us] at q
    have := ud_cn_le (fun c => ud_ad U e c && decide (upd a_placeOf e (nI p) c = nI p)) 24
    rw [q]
    exact ud_by8 _ (by omega)
  have ml := h1.1
  have i24 : vp_in (nI e) 24 := vp_in_nI h24 (by decide)
  have i8 : vp_in (nI r) 8 := vp_in_nI hr (by decide)
  have i32 : vp_in (nI p) 32 := vp_in_nI hp (by decide)
  have ce : (nI e).toNatClampNeg = e := ud_cl (by omega)
  have cr : (nI r).toNatClampNeg = r := ud_cl (by omega)
  have cp : (nI p).toNatClampNeg = p := ud_cl (by omega)
  unfold wX_note_25
  intro us eus
  refine ⟨i24, ?_⟩
  intro ro ero
  refine ⟨i8, i24, ?_⟩
  intro ov eov
  refine ⟨i24, ?_⟩
  intro pl epl
  refine ⟨i32, i32, ?_⟩
  intro ch ech
  refine ⟨i8, i24, ?_⟩
  intro orr eorr
  refine ⟨i8, ?_⟩
  intro nw enw
  refine ⟨i24, ?_⟩
  intro oa eoa
  refine ⟨i24, ?_⟩
  intro na ena
  rw [ce, ud_nar2 (ud_by8 r (by omega))] at ero
  rw [ce, cr] at eov
  rw [ce, ud_nar2 (ud_by8 p (by omega))] at epl
  rw [cp, ud_nar2 hck] at ech
  rw [ce, cr, ud_nar (ud_mx_by (hw.1 r hr))] at eorr
  rw [cr, ud_nar2 (ud_by8 e (by omega))] at enw
  rw [ce, ud_nar2 (ud_mx_by ml)] at eoa
  rw [ce, ud_narm] at ena
  subst eus ero eov epl ech eorr enw eoa ena
  by_cases z : f_last < 0
  · refine br_t z ?_
    intro co eco
    subst eco
    rw [if_pos z, if_pos z] at hX
    exact K _ _ _ _ _ _ _ _ _ hX hW
  · obtain ⟨l, l1, l2, _⟩ := ud_mx_nn ml z
    refine br_f z ⟨by rw [l2]; exact vp_in_nI l1 (by decide), ?_⟩
    intro na2 ena2
    intro co eco
    rw [ud_nar2 (ud_by8 e (by omega))] at ena2
    subst eco ena2
    rw [if_neg z, if_neg z] at hX
    exact K _ _ _ _ _ _ _ _ _ hX hW
theorem ud_note2 {post : SX → Prop} {p r : Nat} (hf : ∃ c, c < 24 ∧ U c = false) (hb : ∀ c, c < 24 → bt f_used c = U c) (K : ∀ e, e < 24 → U e = false → wX_note_25 post (nI r) (nI p) (nI e) f_used f_first f_last f_count f_taken f_now a_values a_newest a_forgotten a_rowOf a_oldValue a_placeOf a_olderOfRow a_olderOfAll a_newerOfAll a_changesOf a_numberOf a_openPlace) : ∀ n i, i < 24 → 24 < n + i → (∀ j, j < i → U j = true) → wX_note_2 post (nI r) (nI p) f_used f_first f_last f_count f_taken f_now a_values a_newest a_forgotten a_rowOf a_oldValue a_placeOf a_olderOfRow a_olderOfAll a_newerOfAll a_changesOf a_numberOf a_openPlace n (nI i) := by
  intro n
  induction n with
  | zero => intro i h1 h2; omega
  | succ n ih =>
    intro i h1 h2 h3
    unfold wX_note_2
    by_cases z : i = 23
    · have hu : U i = false := by
        obtain ⟨c, c1, c2⟩ := hf
        by_cases y : c = i
        · rw [← y]; exact c2
        · rw [h3 c (by omega)] at c2
          exact absurd c2 (by decide)
      subst z
      exact br_t (Int32.le_refl _) (K 23 h1 hu)
    · refine br_f (nI_ge (b := 23) (by omega) (by decide)) ?_
      by_cases y : bt f_used i = false
      · exact br_t ((ud_bitS f_used (by omega)).mpr y) (K i h1 (by rw [← hb i h1]; exact y))
      · refine br_f (fun q => y ((ud_bitS f_used (by omega)).mp q)) ?_
        intro x ex
        rw [ex, nI_1]
        refine ih (i + 1) (by omega) (by omega) (fun j hj => ?_)
        by_cases w : j = i
        · rw [w, ← hb i h1]; exact ud_nf y
        · exact h3 j (by omega)
theorem ud_note {post : SX → Prop} {p r t : Nat} (h : ud_XL U g f_used f_first f_last f_count a_rowOf a_placeOf a_olderOfAll a_newerOfAll a_changesOf) (hw : ud_Rw U (ud_ps g) a_newest a_rowOf a_olderOfRow) (hcn : ud_cn U 24 < 24) (hp : p < 32) (hr : r < 8) (ht : ∀ c, U c = true → g c < t)
    (K : ∀ e us fi la co nw orr oa na ch, e < 24 → U e = false → ud_XL (ud_ad U e) (ud_gs g e t) us fi la co (upd a_rowOf e (nI r)) (upd a_placeOf e (nI p)) oa na ch → ud_Rw (ud_ad U e) (ud_ps (ud_gs g e t)) nw (upd a_rowOf e (nI r)) orr → post (us, fi, la, co, f_taken, f_now, a_values, nw, a_forgotten, upd a_rowOf e (nI r), upd a_oldValue e (a_values r), upd a_placeOf e (nI p), orr, oa, na, ch, a_numberOf, a_openPlace)) : wpX_note post (f_used, f_first, f_last, f_count, f_taken, f_now, a_values, a_newest, a_forgotten, a_rowOf, a_oldValue, a_placeOf, a_olderOfRow, a_olderOfAll, a_newerOfAll, a_changesOf, a_numberOf, a_openPlace) (nI r) (nI p) := by
  refine ⟨25, ?_⟩
  refine ud_note2 (U := U) ?_ h.2.1 (fun e h24 he => ?_) 25 0 (by omega) (by omega) (fun j hj => by omega)
  · rcases Classical.em (∃ c, c < 24 ∧ U c = false) with q | q
    · exact q
    · exfalso
      rw [ud_cn_all 24 (fun i hi => ud_nf (fun w => q ⟨i, hi, w⟩))] at hcn
      omega
  · exact ud_note25 h hw h24 he hp hr ht (fun us fi la co nw orr oa na ch a b => K e us fi la co nw orr oa na ch h24 he a b)
end
end
section
/-! ===== the reference's loops ===== -/
def ud_PS (row num : Nat → Int32) (r s : Int32) : Nat → Bool := fun i => decide (row i = r) && (!decide (num i ≤ 0) && !decide (s < num i))
def ud_PL (row num : Nat → Int32) (r : Int32) : Nat → Bool := fun i => decide (row i = r) && !decide (num i = -1)
def ud_KP (kept : Nat → Int32) : Nat → Bool := fun i => !decide (kept i = 0)
def ud_OP (who num : Nat → Int32) (x : Int32) : Nat → Bool := fun i => decide (who i = x) && decide (num i = 0)
theorem ud_cn_s (f : Nat → Bool) (n : Nat) : ud_cn f (n + 1) = ud_cn f n + (if f n = true then 1 else 0) := rfl
theorem ud_cn_t {f : Nat → Bool} {n : Nat} (h : f n = true) : ud_cn f (n + 1) = ud_cn f n + 1 := by rw [ud_cn_s, if_pos h]
theorem ud_cn_f {f : Nat → Bool} {n : Nat} (h : f n = false) : ud_cn f (n + 1) = ud_cn f n := by rw [ud_cn_s, if_neg (by rw [h]; decide)]; rfl
theorem ud_lv_t {P : Nat → Bool} {v : Nat → Int32} {n : Nat} (h : P n = true) : ud_lv P v (n + 1) = v n := if_pos h
theorem ud_lv_f {P : Nat → Bool} {v : Nat → Int32} {n : Nat} (h : P n = false) : ud_lv P v (n + 1) = ud_lv P v n := if_neg (by rw [h]; decide)
section
variable {f_size f_time : Int32} {a_row a_value a_before a_who a_number a_kept a_now a_lock a_gone : Nat → Int32} {sz : Nat}
theorem ud_yses1 {post : Int32 → Prop} {x : Nat} (hx : x < 4) (h : post 1) : wpY_session post (f_size, f_time, a_row, a_value, a_before, a_who, a_number, a_kept, a_now, a_lock, a_gone) (nI x) :=
  br_f (nI_pos (by omega)) (br_f (nI_nlt (a := 3) (by omega) (by omega)) h)
theorem ud_yses0 {post : Int32 → Prop} {x : Int32} (hx : x < 0 ∨ (¬ x < 0 ∧ 4 ≤ x ∧ 3 < x)) (h : post 0) : wpY_session post (f_size, f_time, a_row, a_value, a_before, a_who, a_number, a_kept, a_now, a_lock, a_gone) x := by
  rcases hx with a | a
  · exact br_t a h
  · exact br_f a.1 (br_t a.2.2 h)
theorem ud_yrow1 {post : Int32 → Prop} {x : Nat} (hx : x < 8) (h : post 1) : wpY_isRow post (f_size, f_time, a_row, a_value, a_before, a_who, a_number, a_kept, a_now, a_lock, a_gone) (nI x) :=
  br_f (nI_pos (by omega)) (br_f (nI_nlt (a := 7) (by omega) (by omega)) h)
theorem ud_yrow0 {post : Int32 → Prop} {x : Int32} (hx : x < 0 ∨ (¬ x < 0 ∧ 8 ≤ x ∧ 7 < x)) (h : post 0) : wpY_isRow post (f_size, f_time, a_row, a_value, a_before, a_who, a_number, a_kept, a_now, a_lock, a_gone) x := by
  rcases hx with a | a
  · exact br_t a h
  · exact br_f a.1 (br_t a.2.2 h)
theorem ud_yrem4 {post : Int32 → Prop} (hs : f_size = nI sz) (hz : sz ≤ 512) (K : post (nI (ud_cn (ud_KP a_kept) sz))) : ∀ n i, i ≤ sz → sz < n + i → wY_remembered_4 post f_size f_time a_row a_value a_before a_who a_number a_kept a_now a_lock a_gone n (nI (ud_cn (ud_KP a_kept) i)) (nI i) := by
  intro n
  induction n with
  | zero => intro i h1 h2; omega
  | succ n ih =>
    intro i h1 h2
    unfold wY_remembered_4
    by_cases z : i = sz
    · subst z
      rw [hs]
      exact br_t (Int32.le_refl _) K
    · refine br_f (by rw [hs]; exact nI_ge (by omega) (by omega)) ⟨vp_in_nI (by omega) (by decide), ?_⟩
      rw [ud_cl (by omega)]
      by_cases y : a_kept i = 0
      · refine br_t y ?_
        intro x ex
        rw [ex, nI_1]
        have q := ih (i + 1) (by omega) (by omega)
        rw [ud_cn_f (show ud_KP a_kept i = false by unfold ud_KP; rw [decide_eq_true y]; rfl)] at q
        exact q
      · refine br_f y ?_
        intro x1 ex1 x ex
        rw [ex, ex1, nI_1, nI_1]
        have q := ih (i + 1) (by omega) (by omega)
        rw [ud_cn_t (show ud_KP a_kept i = true by unfold ud_KP; rw [decide_eq_false y]; rfl)] at q
        exact q
theorem ud_yrem {post : Int32 → Prop} (hs : f_size = nI sz) (hz : sz ≤ 512) (K : post (nI (ud_cn (ud_KP a_kept) sz))) : wpY_remembered post (f_size, f_time, a_row, a_value, a_before, a_who, a_number, a_kept, a_now, a_lock, a_gone) :=
  ⟨sz + 1, ud_yrem4 hs hz K (sz + 1) 0 (by omega) (by omega)⟩
theorem ud_yold2 {post : Int32 → Prop} (hs : f_size = nI sz) (hz : sz ≤ 512) (hx : ∃ i, i < sz ∧ ¬ a_kept i = 0) (K : ∀ i, i < sz → ¬ a_kept i = 0 → (∀ j, j < i → a_kept j = 0) → post (nI i)) : ∀ n i, i ≤ sz → sz < n + i → (∀ j, j < i → a_kept j = 0) → wY_oldestKept_2 post f_size f_time a_row a_value a_before a_who a_number a_kept a_now a_lock a_gone n (nI i) := by
  intro n
  induction n with
  | zero => intro i h1 h2; omega
  | succ n ih =>
    intro i h1 h2 h3
    unfold wY_oldestKept_2
    by_cases z : i = sz
    · obtain ⟨j, j1, j2⟩ := hx
      exact absurd (h3 j (by omega)) j2
    · refine br_f (by rw [hs]; exact nI_ge (by omega) (by omega)) ⟨vp_in_nI (by omega) (by decide), ?_⟩
      rw [ud_cl (by omega)]
      by_cases y : a_kept i = 0
      · refine br_t y ?_
        intro x ex
        rw [ex, nI_1]
        refine ih (i + 1) (by omega) (by omega) (fun j hj => ?_)
        by_cases w : j = i
        · rw [w]; exact y
        · exact h3 j (by omega)
      · exact br_f y (K i (by omega) y h3)
theorem ud_yold {post : Int32 → Prop} (hs : f_size = nI sz) (hz : sz ≤ 512) (hx : ∃ i, i < sz ∧ ¬ a_kept i = 0) (K : ∀ i, i < sz → ¬ a_kept i = 0 → (∀ j, j < i → a_kept j = 0) → post (nI i)) : wpY_oldestKept post (f_size, f_time, a_row, a_value, a_before, a_who, a_number, a_kept, a_now, a_lock, a_gone) :=
  ⟨sz + 1, ud_yold2 hs hz hx K (sz + 1) 0 (by omega) (by omega) (fun j hj => by omega)⟩
theorem ud_ych0 {post : Int32 → Prop} {x : Int32} (hs : f_size = nI sz) (hz : sz ≤ 512) (hx : x < 0 ∨ (¬ x < 0 ∧ 4 ≤ x ∧ 3 < x)) (K : post 0) : ∀ n i, i ≤ sz → sz < n + i → wY_changes_4 post x f_size f_time a_row a_value a_before a_who a_number a_kept a_now a_lock a_gone n 0 (nI i) := by
  intro n
  induction n with
  | zero => intro i h1 h2; omega
  | succ n ih =>
    intro i h1 h2
    unfold wY_changes_4
    by_cases z : i = sz
    · subst z
      rw [hs]
      exact br_t (Int32.le_refl _) K
    · refine br_f (by rw [hs]; exact nI_ge (by omega) (by omega)) ?_
      refine ud_yses0 hx (br_t rfl ?_)
      intro y ey
      rw [ey, nI_1]
      exact ih (i + 1) (by omega) (by omega)
theorem ud_ych1 {post : Int32 → Prop} {x : Nat} (hs : f_size = nI sz) (hz : sz ≤ 512) (hx : x < 4) (K : post (nI (ud_cn (ud_OP a_who a_number (nI x)) sz))) : ∀ n i, i ≤ sz → sz < n + i → wY_changes_4 post (nI x) f_size f_time a_row a_value a_before a_who a_number a_kept a_now a_lock a_gone n (nI (ud_cn (ud_OP a_who a_number (nI x)) i)) (nI i) := by
  intro n
  induction n with
  | zero => intro i h1 h2; omega
  | succ n ih =>
    intro i h1 h2
    unfold wY_changes_4
    by_cases z : i = sz
    · subst z
      rw [hs]
      exact br_t (Int32.le_refl _) K
    · refine br_f (by rw [hs]; exact nI_ge (by omega) (by omega)) ?_
      refine ud_yses1 hx (br_f (by decide) ⟨vp_in_nI (by omega) (by decide), ?_⟩)
      rw [ud_cl (by omega)]
      have q := ih (i + 1) (by omega) (by omega)
      by_cases y : a_who i = nI x
      · refine br_t y ⟨vp_in_nI (by omega) (by decide), ?_⟩
        by_cases w : a_number i = 0
        · refine br_t w ?_
          intro x2 e2 x3 e3
          rw [e2, e3, nI_1, nI_1]
          rw [ud_cn_t (show ud_OP a_who a_number (nI x) i = true by unfold ud_OP; rw [decide_eq_true y, decide_eq_true w]; rfl)] at q
          exact q
        · refine br_f w ?_
          intro x3 e3
          rw [e3, nI_1]
          rw [ud_cn_f (show ud_OP a_who a_number (nI x) i = false by unfold ud_OP; rw [decide_eq_false w, Bool.and_false])] at q
          exact q
      · refine br_f y ?_
        intro x3 e3
        rw [e3, nI_1]
        rw [ud_cn_f (show ud_OP a_who a_number (nI x) i = false by unfold ud_OP; rw [decide_eq_false y, Bool.false_and])] at q
        exact q
theorem ud_ychs0 {post : Int32 → Prop} {x : Int32} (hs : f_size = nI sz) (hz : sz ≤ 512) (hx : x < 0 ∨ (¬ x < 0 ∧ 4 ≤ x ∧ 3 < x)) (K : post 0) : wpY_changes post (f_size, f_time, a_row, a_value, a_before, a_who, a_number, a_kept, a_now, a_lock, a_gone) x :=
  ⟨sz + 1, ud_ych0 hs hz hx K (sz + 1) 0 (by omega) (by omega)⟩
theorem ud_ychs1 {post : Int32 → Prop} {x : Nat} (hs : f_size = nI sz) (hz : sz ≤ 512) (hx : x < 4) (K : post (nI (ud_cn (ud_OP a_who a_number (nI x)) sz))) : wpY_changes post (f_size, f_time, a_row, a_value, a_before, a_who, a_number, a_kept, a_now, a_lock, a_gone) (nI x) :=
  ⟨sz + 1, ud_ych1 hs hz hx K (sz + 1) 0 (by omega) (by omega)⟩
theorem ud_yva5 {post : Int32 → Prop} {r s : Int32} (hs : f_size = nI sz) (hz : sz ≤ 512) (K : post (ud_lv (ud_PS a_row a_number r s) a_value sz)) : ∀ n i, i ≤ sz → sz < n + i → wY_valueAt_5 post r s f_size f_time a_row a_value a_before a_who a_number a_kept a_now a_lock a_gone n (ud_lv (ud_PS a_row a_number r s) a_value i) (nI i) := by
  intro n
  induction n with
  | zero => intro i h1 h2; omega
  | succ n ih =>
    intro i h1 h2
    unfold wY_valueAt_5
    by_cases z : i = sz
    · subst z
      rw [hs]
      exact br_t (Int32.le_refl _) K
    · refine br_f (by rw [hs]; exact nI_ge (by omega) (by omega)) ⟨vp_in_nI (by omega) (by decide), ?_⟩
      rw [ud_cl (by omega)]
      have q := ih (i + 1) (by omega) (by omega)
      by_cases y : a_row i = r
      · refine br_t y ⟨vp_in_nI (by omega) (by decide), ?_⟩
        by_cases w : a_number i ≤ 0
        · refine br_t w ?_
          intro x3 e3
          rw [e3, nI_1]
          rw [ud_lv_f (show ud_PS a_row a_number r s i = false by unfold ud_PS; rw [decide_eq_true w, Bool.not_true, Bool.false_and, Bool.and_false])] at q
          exact q
        · refine br_f w ⟨vp_in_nI (by omega) (by decide), ?_⟩
          by_cases v : s < a_number i
          · refine br_t v ?_
            intro x3 e3
            rw [e3, nI_1]
            rw [ud_lv_f (show ud_PS a_row a_number r s i = false by unfold ud_PS; rw [decide_eq_true v, Bool.not_true, Bool.and_false, Bool.and_false])] at q
            exact q
          · refine br_f v ⟨vp_in_nI (by omega) (by decide), ?_⟩
            intro x3 e3 x4 e4
            rw [e3, e4, nI_1]
            rw [ud_lv_t (show ud_PS a_row a_number r s i = true by unfold ud_PS; rw [decide_eq_true y, decide_eq_false w, decide_eq_false v]; rfl)] at q
            exact q
      · refine br_f y ?_
        intro x3 e3
        rw [e3, nI_1]
        rw [ud_lv_f (show ud_PS a_row a_number r s i = false by unfold ud_PS; rw [decide_eq_false y, Bool.false_and])] at q
        exact q
theorem ud_yva {post : Int32 → Prop} {r s : Int32} (hs : f_size = nI sz) (hz : sz ≤ 512) (K : post (ud_lv (ud_PS a_row a_number r s) a_value sz)) : wpY_valueAt post (f_size, f_time, a_row, a_value, a_before, a_who, a_number, a_kept, a_now, a_lock, a_gone) r s :=
  ⟨sz + 1, ud_yva5 hs hz K (sz + 1) 0 (by omega) (by omega)⟩
theorem ud_yrel2 {post : SY → Prop} {x : Int32} (K : ∀ lk : Nat → Int32, (∀ r, r < 8 → lk r = if a_lock r = x then -4 else a_lock r) → post (f_size, f_time, a_row, a_value, a_before, a_who, a_number, a_kept, a_now, lk, a_gone)) : ∀ n i, i ≤ 8 → 8 < n + i → ∀ lk : Nat → Int32, (∀ r, r < i → lk r = if a_lock r = x then -4 else a_lock r) → (∀ r, i ≤ r → lk r = a_lock r) → wY_release_2 post x f_size f_time n (nI i) a_row a_value a_before a_who a_number a_kept a_now lk a_gone := by
  intro n
  induction n with
  | zero => intro i h1 h2; omega
  | succ n ih =>
    intro i h1 h2 lk h3 h4
    unfold wY_release_2
    by_cases z : i = 8
    · subst z
      exact br_t (Int32.le_refl _) (K lk h3)
    · refine br_f (nI_ge (b := 8) (by omega) (by decide)) ⟨vp_in_nI (by omega) (by decide), ?_⟩
      rw [ud_cl (by omega)]
      have hi := h4 i (Nat.le_refl _)
      by_cases y : lk i = x
      · refine br_t y ⟨vp_in_nI (by omega) (by decide), ?_⟩
        intro l2 el2 x2 e2
        rw [e2, nI_1]
        refine ih (i + 1) (by omega) (by omega) l2 (fun r hr => ?_) (fun r hr => ?_)
        · by_cases w : r = i
          · rw [w, el2, pk_us, if_pos (by rw [← hi]; exact y)]
          · rw [el2, pk_un w, h3 r (by omega)]
        · rw [el2, pk_un (by omega), h4 r (by omega)]
      · refine br_f y ⟨vp_in_nI (by omega) (by decide), vp_in_nI (by omega) (by decide), ?_⟩
        intro l2 el2 x2 e2
        rw [e2, nI_1]
        rw [ud_updeq] at el2
        rw [el2]
        refine ih (i + 1) (by omega) (by omega) lk (fun r hr => ?_) (fun r hr => h4 r (by omega))
        by_cases w : r = i
        · rw [w, hi, if_neg (by rw [← hi]; exact y)]
        · exact h3 r (by omega)
theorem ud_yrel {post : SY → Prop} {x : Int32} (K : ∀ lk : Nat → Int32, (∀ r, r < 8 → lk r = if a_lock r = x then -4 else a_lock r) → post (f_size, f_time, a_row, a_value, a_before, a_who, a_number, a_kept, a_now, lk, a_gone)) : wpY_release post (f_size, f_time, a_row, a_value, a_before, a_who, a_number, a_kept, a_now, a_lock, a_gone) x :=
  ⟨9, ud_yrel2 K 9 0 (by omega) (by omega) a_lock (fun r hr => by omega) (fun r _ => rfl)⟩
theorem ud_ycom23 {post : Int32 → SY → Prop} {x : Int32} (hs : f_size = nI sz) (hz : sz ≤ 512) (K : ∀ nu lk : Nat → Int32, (∀ i, i < sz → nu i = if a_who i = x ∧ a_number i = 0 then f_time else a_number i) → (∀ r, r < 8 → lk r = if a_lock r = x then -4 else a_lock r) → post f_time (f_size, f_time, a_row, a_value, a_before, a_who, nu, a_kept, a_now, lk, a_gone)) : ∀ n i, i ≤ sz → sz < n + i → ∀ nu : Nat → Int32, (∀ j, j < i → nu j = if a_who j = x ∧ a_number j = 0 then f_time else a_number j) → (∀ j, i ≤ j → nu j = a_number j) → wY_commit_23 post x f_size f_time n (nI i) a_row a_value a_before a_who nu a_kept a_now a_lock a_gone := by
  intro n
  induction n with
  | zero => intro i h1 h2; omega
  | succ n ih =>
    intro i h1 h2 nu h3 h4
    unfold wY_commit_23
    by_cases z : i = sz
    · subst z
      refine br_t (by rw [hs]; exact Int32.le_refl _) ?_
      exact ud_yrel (fun lk hl => K nu lk h3 hl)
    · refine br_f (by rw [hs]; exact nI_ge (by omega) (by omega)) ⟨vp_in_nI (by omega) (by decide), ?_⟩
      rw [ud_cl (by omega)]
      have hi := h4 i (Nat.le_refl _)
      by_cases y : a_who i = x
      · refine br_t y ⟨vp_in_nI (by omega) (by decide), ?_⟩
        by_cases w : nu i = 0
        · refine br_t w ⟨vp_in_nI (by omega) (by decide), ?_⟩
          intro n2 en2 x2 e2
          rw [e2, nI_1]
          refine ih (i + 1) (by omega) (by omega) n2 (fun j hj => ?_) (fun j hj => ?_)
          · by_cases v : j = i
            · rw [v, en2, pk_us, if_pos ⟨y, by rw [← hi]; exact w⟩]
            · rw [en2, pk_un v, h3 j (by omega)]
          · rw [en2, pk_un (by omega), h4 j (by omega)]
        · refine br_f w ⟨vp_in_nI (by omega) (by decide), vp_in_nI (by omega) (by decide), ?_⟩
          intro n2 en2 x2 e2
          rw [e2, nI_1]
          rw [ud_updeq] at en2
          rw [en2]
          refine ih (i + 1) (by omega) (by omega) nu (fun j hj => ?_) (fun j hj => h4 j (by omega))
          by_cases v : j = i
          · rw [v, hi, if_neg (fun q => w (by rw [hi]; exact q.2))]
          · exact h3 j (by omega)
      · refine br_f y ⟨vp_in_nI (by omega) (by decide), vp_in_nI (by omega) (by decide), ?_⟩
        intro n2 en2 x2 e2
        rw [e2, nI_1]
        rw [ud_updeq] at en2
        rw [en2]
        refine ih (i + 1) (by omega) (by omega) nu (fun j hj => ?_) (fun j hj => h4 j (by omega))
        by_cases v : j = i
        · rw [v, hi, if_neg (fun q => y q.1)]
        · exact h3 j (by omega)
theorem ud_yrb18 {post : Int32 → SY → Prop} {x : Int32} {I : Nat → (Nat → Int32) → Prop} (hs : f_size = nI sz) (hz : sz ≤ 512) (hrow : ∀ i, i < sz → ∃ r, r < 8 ∧ a_row i = nI r)
    (s1 : ∀ i r no, i < sz → r < 8 → a_row i = nI r → a_who i = x → a_number i = 0 → I (i + 1) no → I i (upd no r (a_before i)))
    (s2 : ∀ i no, i < sz → ¬ (a_who i = x ∧ a_number i = 0) → I (i + 1) no → I i no)
    (K : ∀ nu ke no lk : Nat → Int32, (∀ i, i < sz → nu i = if a_who i = x ∧ a_number i = 0 then -1 else a_number i) → (∀ i, i < sz → ke i = if a_who i = x ∧ a_number i = 0 then 0 else a_kept i) → I 0 no → (∀ r, r < 8 → lk r = if a_lock r = x then -4 else a_lock r) → post 0 (f_size, f_time, a_row, a_value, a_before, a_who, nu, ke, no, lk, a_gone)) :
    ∀ i, i ≤ sz → ∀ nu ke no : Nat → Int32, (∀ j, i ≤ j → j < sz → nu j = if a_who j = x ∧ a_number j = 0 then -1 else a_number j) → (∀ j, j < i → nu j = a_number j) → (∀ j, i ≤ j → j < sz → ke j = if a_who j = x ∧ a_number j = 0 then 0 else a_kept j) → (∀ j, j < i → ke j = a_kept j) → I i no → wY_rollback_18 post x f_size f_time (i + 1) (nI i + (-1)) a_row a_value a_before a_who nu ke no a_lock a_gone := by
  intro i
  induction i with
  | zero =>
    intro h1 nu ke no h2 h3 h4 h5 h6
    unfold wY_rollback_18
    refine br_t (by decide) ?_
    exact ud_yrel (fun lk hl => K nu ke no lk (fun j hj => h2 j (by omega) hj) (fun j hj => h4 j (by omega) hj) h6 hl)
  | succ i ih =>
    intro h1 nu ke no h2 h3 h4 h5 h6
    rw [pk_m1]
    unfold wY_rollback_18
    refine br_f (nI_pos (by omega)) ⟨vp_in_nI (by omega) (by decide), ?_⟩
    rw [ud_cl (by omega)]
    have hn := h3 i (by omega)
    have hk := h5 i (by omega)
    by_cases y : a_who i = x
    · refine br_t y ⟨vp_in_nI (by omega) (by decide), ?_⟩
      by_cases w : nu i = 0
      · obtain ⟨r, r1, r2⟩ := hrow i (by omega)
        refine br_t w ⟨vp_in_nI (by omega) (by decide), vp_in_nI (by omega) (by decide), ?_⟩
        rw [r2]
        refine ⟨vp_in_nI r1 (by decide), ?_⟩
        rw [ud_cl (by omega)]
        intro no2 eno
        refine ⟨vp_in_nI (by omega) (by decide), ?_⟩
        intro nu2 enu
        refine ⟨vp_in_nI (by omega) (by decide), ?_⟩
        intro ke2 eke x2 e2
        rw [ud_bool0] at eke
        rw [e2]
        have ho : a_who i = x ∧ a_number i = 0 := ⟨y, by rw [← hn]; exact w⟩
        refine ih (by omega) nu2 ke2 no2 (fun j a b => ?_) (fun j a => ?_) (fun j a b => ?_) (fun j a => ?_) ?_
        · by_cases v : j = i
          · rw [v, enu, pk_us, if_pos ho]
          · rw [enu, pk_un v, h2 j (by omega) b]
        · rw [enu, pk_un (by omega), h3 j (by omega)]
        · by_cases v : j = i
          · rw [v, eke, pk_us, if_pos ho]
          · rw [eke, pk_un v, h4 j (by omega) b]
        · rw [eke, pk_un (by omega), h5 j (by omega)]
        · rw [eno]
          exact s1 i r no (by omega) r1 r2 ho.1 ho.2 h6
      · refine br_f w ?_
        intro x2 e2
        rw [e2]
        have ho : ¬ (a_who i = x ∧ a_number i = 0) := fun q => w (by rw [hn]; exact q.2)
        refine ih (by omega) nu ke no (fun j a b => ?_) (fun j a => h3 j (by omega)) (fun j a b => ?_) (fun j a => h5 j (by omega)) (s2 i no (by omega) ho h6)
        · by_cases v : j = i
          · rw [v, hn, if_neg ho]
          · exact h2 j (by omega) b
        · by_cases v : j = i
          · rw [v, hk, if_neg ho]
          · exact h4 j (by omega) b
    · refine br_f y ?_
      intro x2 e2
      rw [e2]
      have ho : ¬ (a_who i = x ∧ a_number i = 0) := fun q => y q.1
      refine ih (by omega) nu ke no (fun j a b => ?_) (fun j a => h3 j (by omega)) (fun j a b => ?_) (fun j a => h5 j (by omega)) (s2 i no (by omega) ho h6)
      · by_cases v : j = i
        · rw [v, hn, if_neg ho]
        · exact h2 j (by omega) b
      · by_cases v : j = i
        · rw [v, hk, if_neg ho]
        · exact h4 j (by omega) b
end
end
section
/-! ===== the relation ===== -/
/-- the reference's own invariant -/
def ud_YI (sz t : Nat) (row value before who num kept now lock gone : Nat → Int32) : Prop :=
  (∀ i, i < sz → (∃ r, r < 8 ∧ row i = nI r) ∧ (∃ x, x < 4 ∧ who i = nI x) ∧ (num i = -1 ∨ ∃ m, m ≤ t ∧ num i = nI m)) ∧
  (∀ i, i < sz → (num i = 0 → ¬ kept i = 0) ∧ (¬ kept i = 0 → ¬ num i = -1)) ∧
  (∀ i, i < sz → kept i = 0 → ¬ num i = -1 → (∀ r, r < 8 → row i = nI r → num i ≤ gone r) ∧ ∀ j, j < sz → ¬ kept j = 0 → i < j) ∧
  (∀ i j, i < j → j < sz → row i = row j → ¬ num i = -1 → ¬ num j = -1 → num j = 0 ∨ (¬ num i = 0 ∧ num i ≤ num j)) ∧
  (∀ i, i < sz → ¬ num i = -1 → before i = ud_lv (ud_PL row num (row i)) value i) ∧
  (∀ r, r < 8 → now r = ud_lv (ud_PL row num (nI r)) value sz) ∧
  (∀ i, i < sz → num i = 0 → ∀ r, r < 8 → row i = nI r → lock r = who i) ∧
  (∀ r, r < 8 → lock r = -4 ∨ ∃ i, i < sz ∧ num i = 0 ∧ row i = nI r)
/-- the component's slots and the reference's indices -/
def ud_XY (U : Nat → Bool) (g : Nat → Nat) (sz : Nat) (taken : Int32) (ro ov pl nof op row before who num kept : Nat → Int32) : Prop :=
  (∀ c, U c = true → g c < sz ∧ ¬ kept (g c) = 0 ∧ ro c = row (g c) ∧ ov c = before (g c) ∧ (∀ p, p < 32 → pl c = nI p → nof p = num (g c)) ∧ (num (g c) = 0 → ∀ x, x < 4 → who (g c) = nI x → pl c = op x)) ∧
  (∀ i, i < sz → ¬ kept i = 0 → ∃ c, U c = true ∧ g c = i) ∧
  (∀ x, x < 4 → (op x = -1 ∧ ∀ i, i < sz → num i = 0 → ¬ who i = nI x) ∨ (∃ p, p < 32 ∧ op x = nI p ∧ nof p = 0 ∧ ∃ i, i < sz ∧ num i = 0 ∧ who i = nI x)) ∧
  (∀ x y, x < 4 → y < 4 → ¬ op x = -1 → op x = op y → x = y) ∧
  (∀ p, p < 32 → (bt taken p = true ↔ ∃ c, U c = true ∧ pl c = nI p))
def ud_R (k sz t : Nat) (U : Nat → Bool) (g : Nat → Nat) (f_used f_first f_last f_count f_taken f_now : Int32) (a_values a_newest a_forgotten a_rowOf a_oldValue a_placeOf a_olderOfRow a_olderOfAll a_newerOfAll a_changesOf a_numberOf a_openPlace : Nat → Int32) (f_size f_time : Int32) (a_row a_value a_before a_who a_number a_kept a_now a_lock a_gone : Nat → Int32) : Prop :=
  (f_now = nI t ∧ f_time = nI t ∧ f_size = nI sz ∧ sz * 4 ≤ k ∧ t * 4 ≤ k ∧ (∀ r, r < 8 → a_values r = a_now r) ∧ (∀ r, r < 8 → a_forgotten r = a_gone r)) ∧
  ud_XL U g f_used f_first f_last f_count a_rowOf a_placeOf a_olderOfAll a_newerOfAll a_changesOf ∧
  ud_Rw U (ud_ps g) a_newest a_rowOf a_olderOfRow ∧
  ud_YI sz t a_row a_value a_before a_who a_number a_kept a_now a_lock a_gone ∧
  ud_XY U g sz f_taken a_rowOf a_oldValue a_placeOf a_numberOf a_openPlace a_row a_before a_who a_number a_kept
/-- the relation that is owed -/
def i_Rel (k : Nat) (u : SX) (v : SY) : Prop := match u, v with
  | (f_used, f_first, f_last, f_count, f_taken, f_now, a_values, a_newest, a_forgotten, a_rowOf, a_oldValue, a_placeOf, a_olderOfRow, a_olderOfAll, a_newerOfAll, a_changesOf, a_numberOf, a_openPlace), (f_size, f_time, a_row, a_value, a_before, a_who, a_number, a_kept, a_now, a_lock, a_gone) => ∃ (U : Nat → Bool) (g : Nat → Nat) (sz t : Nat), ud_R k sz t U g f_used f_first f_last f_count f_taken f_now a_values a_newest a_forgotten a_rowOf a_oldValue a_placeOf a_olderOfRow a_olderOfAll a_newerOfAll a_changesOf a_numberOf a_openPlace f_size f_time a_row a_value a_before a_who a_number a_kept a_now a_lock a_gone
theorem ud_R_up {k k' sz t : Nat} {U : Nat → Bool} {g : Nat → Nat} {f_used f_first f_last f_count f_taken f_now : Int32} {a_values a_newest a_forgotten a_rowOf a_oldValue a_placeOf a_olderOfRow a_olderOfAll a_newerOfAll a_changesOf a_numberOf a_openPlace : Nat → Int32} {f_size f_time : Int32} {a_row a_value a_before a_who a_number a_kept a_now a_lock a_gone : Nat → Int32} (hk : k ≤ k') (h : ud_R k sz t U g f_used f_first f_last f_count f_taken f_now a_values a_newest a_forgotten a_rowOf a_oldValue a_placeOf a_olderOfRow a_olderOfAll a_newerOfAll a_changesOf a_numberOf a_openPlace f_size f_time a_row a_value a_before a_who a_number a_kept a_now a_lock a_gone) : ud_R k' sz t U g f_used f_first f_last f_count f_taken f_now a_values a_newest a_forgotten a_rowOf a_oldValue a_placeOf a_olderOfRow a_olderOfAll a_newerOfAll a_changesOf a_numberOf a_openPlace f_size f_time a_row a_value a_before a_who a_number a_kept a_now a_lock a_gone := by
  obtain ⟨⟨a1, a2, a3, a4, a5, a6⟩, h2⟩ := h
  exact ⟨⟨a1, a2, a3, by omega, by omega, a6⟩, h2⟩
theorem i_up {k : Nat} {u : SX} {v : SY} (h : i_Rel k u v) : i_Rel (k + 4) u v := by
  obtain ⟨f_used, f_first, f_last, f_count, f_taken, f_now, a_values, a_newest, a_forgotten, a_rowOf, a_oldValue, a_placeOf, a_olderOfRow, a_olderOfAll, a_newerOfAll, a_changesOf, a_numberOf, a_openPlace⟩ := u
  obtain ⟨f_size, f_time, a_row, a_value, a_before, a_who, a_number, a_kept, a_now, a_lock, a_gone⟩ := v
  obtain ⟨U, g, sz, t, h⟩ := h
  exact ⟨U, g, sz, t, ud_R_up (by omega) h⟩
section
variable {f_used f_first f_last f_count f_taken f_now : Int32} {a_values a_newest a_forgotten a_rowOf a_oldValue a_placeOf a_olderOfRow a_olderOfAll a_newerOfAll a_changesOf a_numberOf a_openPlace : Nat → Int32} {f_size f_time : Int32} {a_row a_value a_before a_who a_number a_kept a_now a_lock a_gone : Nat → Int32} {k sz t : Nat} {U : Nat → Bool} {g : Nat → Nat}
theorem ud_xses1 {post : Int32 → Prop} {x : Nat} (hx : x < 4) (h : post 1) : wpX_isSession post (nI x) :=
  br_f (nI_pos (by omega)) (br_f (nI_ge (b := 4) hx (by decide)) h)
theorem ud_xses0 {post : Int32 → Prop} {x : Int32} (hx : x < 0 ∨ (¬ x < 0 ∧ 4 ≤ x ∧ 3 < x)) (h : post 0) : wpX_isSession post x := by
  rcases hx with a | a
  · exact br_t a h
  · exact br_f a.1 (br_t a.2.1 h)
theorem ud_xrow1 {post : Int32 → Prop} {x : Nat} (hx : x < 8) (h : post 1) : wpX_isRow post (nI x) :=
  br_f (nI_pos (by omega)) (br_f (nI_ge (b := 8) hx (by decide)) h)
theorem ud_xrow0 {post : Int32 → Prop} {x : Int32} (hx : x < 0 ∨ (¬ x < 0 ∧ 8 ≤ x ∧ 7 < x)) (h : post 0) : wpX_isRow post x := by
  rcases hx with a | a
  · exact br_t a h
  · exact br_f a.1 (br_t a.2.1 h)
theorem ud_nm4 {c : Nat} (h : c < 4096) : ¬ nI c = -4 := fun e => nI_pos (n := c) (by omega) (by rw [e]; decide)
/-- who holds a row: the lock of one is that of the other -/
theorem ud_lock {post : Int32 → Prop} {r : Nat} (hr : r < 8) (h : ud_R k sz t U g f_used f_first f_last f_count f_taken f_now a_values a_newest a_forgotten a_rowOf a_oldValue a_placeOf a_olderOfRow a_olderOfAll a_newerOfAll a_changesOf a_numberOf a_openPlace f_size f_time a_row a_value a_before a_who a_number a_kept a_now a_lock a_gone) (h1 : a_lock r = -4 → post (-1)) (h2 : ∀ x p, x < 4 → p < 32 → a_lock r = nI x → a_openPlace x = nI p → post (nI p)) : wpX_lockOf post (f_used, f_first, f_last, f_count, f_taken, f_now, a_values, a_newest, a_forgotten, a_rowOf, a_oldValue, a_placeOf, a_olderOfRow, a_olderOfAll, a_newerOfAll, a_changesOf, a_numberOf, a_openPlace) (nI r) := by
  obtain ⟨_, hX, hW, hY, hZ⟩ := h
  obtain ⟨y1, y2, y3, y4, y5, y6, y7, y8⟩ := hY
  obtain ⟨z1, z2, z3, z4, z5⟩ := hZ
  refine ud_lockOf hr ?_
  rcases hW.1 r hr with ⟨a, b⟩ | ⟨c, c1, c2, c3, c4⟩
  · refine Or.inl ⟨a, h1 ?_⟩
    rcases y8 r hr with q | ⟨i, i1, i2, i3⟩
    · exact q
    · exfalso
      obtain ⟨c, u1, u2⟩ := z2 i i1 ((y2 i i1).1 i2)
      refine b c ⟨u1, ?_⟩
      rw [(z1 c u1).2.2.1, u2]
      exact i3
  · refine Or.inr ?_
    obtain ⟨p, p1, p2⟩ := hX.2.2.2.2.1 c c3.1
    obtain ⟨w1, w2, w3, w4, w5, w6⟩ := z1 c c3.1
    have e := w5 p p1 p2
    have w7 : a_row (g c) = nI r := by rw [← w3]; exact c3.2
    refine ⟨c, p, c1, p1, c2, p2, fun q => ?_, fun q => ?_⟩
    · obtain ⟨x, x1, x2⟩ := (y1 (g c) w1).2.1
      rw [e] at q
      refine h2 x p x1 p1 ?_ ?_
      · rw [y7 (g c) w1 q r hr w7]; exact x2
      · rw [← w6 q x x1 x2]; exact p2
    · refine h1 ?_
      rcases y8 r hr with v | ⟨i, i1, i2, i3⟩
      · exact v
      · exfalso
        obtain ⟨d, u1, u2⟩ := z2 i i1 ((y2 i i1).1 i2)
        have v1 := c4 d ⟨u1, by rw [(z1 d u1).2.2.1, u2]; exact i3⟩
        have v2 : g d ≤ g c := Int.ofNat_le.mp v1
        rw [u2] at v2
        rw [e] at q
        by_cases v3 : i = g c
        · rw [v3] at i2; exact q i2
        · rcases y4 i (g c) (by omega) w1 (by rw [i3, w7]) (by rw [i2]; decide) ((y2 (g c) w1).2 w2) with v4 | v4
          · exact q v4
          · exact v4.1 i2
/-! counts of both sides -/
theorem ud_cntK (h : ud_R k sz t U g f_used f_first f_last f_count f_taken f_now a_values a_newest a_forgotten a_rowOf a_oldValue a_placeOf a_olderOfRow a_olderOfAll a_newerOfAll a_changesOf a_numberOf a_openPlace f_size f_time a_row a_value a_before a_who a_number a_kept a_now a_lock a_gone) : ud_cn U 24 = ud_cn (ud_KP a_kept) sz := by
  obtain ⟨_, hX, hW, hY, hZ⟩ := h
  refine ud_cn_bij (h := g) (fun c hc uc => ?_) (fun c d _ _ uc ud q => hX.2.2.1 c d uc ud q) (fun i hi bi => ?_)
  · obtain ⟨w1, w2, _⟩ := hZ.1 c uc
    refine ⟨w1, ?_⟩
    unfold ud_KP
    rw [decide_eq_false w2]
    rfl
  · obtain ⟨c, u1, u2⟩ := hZ.2.1 i hi (fun q => by
      unfold ud_KP at bi
      rw [decide_eq_true q] at bi
      exact absurd bi (by decide))
    exact ⟨c, hX.1 c u1, u1, u2⟩
/-- the changes of a place are those of its session -/
theorem ud_place (h : ud_R k sz t U g f_used f_first f_last f_count f_taken f_now a_values a_newest a_forgotten a_rowOf a_oldValue a_placeOf a_olderOfRow a_olderOfAll a_newerOfAll a_changesOf a_numberOf a_openPlace f_size f_time a_row a_value a_before a_who a_number a_kept a_now a_lock a_gone) {x p c : Nat} (hx : x < 4) (hp : p < 32) (ho : a_openPlace x = nI p) (uc : U c = true) : a_placeOf c = nI p ↔ (a_who (g c) = nI x ∧ a_number (g c) = 0) := by
  obtain ⟨_, hX, hW, hY, hZ⟩ := h
  obtain ⟨w1, w2, w3, w4, w5, w6⟩ := hZ.1 c uc
  constructor
  · intro q
    have q0 : a_numberOf p = 0 := by
      rcases hZ.2.2.1 x hx with v | ⟨p', v1, v2, v3, _⟩
      · rw [ho] at v; exact absurd v.1 (ud_nm1 (by omega))
      · rw [ho] at v2
        rw [ud_inj (by omega) (by omega) v2]; exact v3
    have q1 : a_number (g c) = 0 := by rw [← w5 p hp q]; exact q0
    obtain ⟨y, x1, x2⟩ := (hY.1 (g c) w1).2.1
    have q2 := w6 q1 y x1 x2
    rw [q] at q2
    have q3 := hZ.2.2.2.1 x y hx x1 (by rw [ho]; exact ud_nm1 (by omega)) (by rw [ho]; exact q2)
    rw [q3]
    exact ⟨x2, q1⟩
  · intro ⟨q1, q2⟩
    rw [w6 q2 x hx q1]
    exact ho
theorem ud_cntO (h : ud_R k sz t U g f_used f_first f_last f_count f_taken f_now a_values a_newest a_forgotten a_rowOf a_oldValue a_placeOf a_olderOfRow a_olderOfAll a_newerOfAll a_changesOf a_numberOf a_openPlace f_size f_time a_row a_value a_before a_who a_number a_kept a_now a_lock a_gone) {x p : Nat} (hx : x < 4) (hp : p < 32) (ho : a_openPlace x = nI p) : ud_cn (fun c => U c && decide (a_placeOf c = nI p)) 24 = ud_cn (ud_OP a_who a_number (nI x)) sz := by
  have hpl := fun c uc => ud_place h (c := c) hx hp ho uc
  obtain ⟨_, hX, hW, hY, hZ⟩ := h
  have hsp : ∀ c, (U c && decide (a_placeOf c = nI p)) = true → U c = true ∧ a_placeOf c = nI p := fun c q => by
    rw [Bool.and_eq_true] at q
    exact ⟨q.1, of_decide_eq_true q.2⟩
  refine ud_cn_bij (h := g) (fun c hc uc => ?_) (fun c d _ _ uc ud q => hX.2.2.1 c d (hsp c uc).1 (hsp d ud).1 q) (fun i hi bi => ?_)
  · obtain ⟨a, b⟩ := hsp c uc
    have q := (hpl c a).mp b
    refine ⟨(hZ.1 c a).1, ?_⟩
    unfold ud_OP
    rw [decide_eq_true q.1, decide_eq_true q.2]
    rfl
  · unfold ud_OP at bi
    rw [Bool.and_eq_true] at bi
    have b1 : a_who i = nI x := of_decide_eq_true bi.1
    have b2 : a_number i = 0 := of_decide_eq_true bi.2
    obtain ⟨c, u1, u2⟩ := hZ.2.1 i hi ((hY.2.1 i hi).1 b2)
    refine ⟨c, hX.1 c u1, ?_, u2⟩
    rw [u1, decide_eq_true ((hpl c u1).mpr (by rw [u2]; exact ⟨b1, b2⟩))]
    rfl
end
end
section
section
variable {f_used f_first f_last f_count f_taken f_now : Int32} {a_values a_newest a_forgotten a_rowOf a_oldValue a_placeOf a_olderOfRow a_olderOfAll a_newerOfAll a_changesOf a_numberOf a_openPlace : Nat → Int32} {f_size f_time : Int32} {a_row a_value a_before a_who a_number a_kept a_now a_lock a_gone : Nat → Int32} {k sz t : Nat} {U : Nat → Bool} {g : Nat → Nat} {Q : Prop}
theorem ud_sz {k sz : Nat} (h : sz * 4 ≤ k) (hk : k + 4 ≤ 2048) : sz < 512 := by omega
theorem ud_q_clock (h : ud_R k sz t U g f_used f_first f_last f_count f_taken f_now a_values a_newest a_forgotten a_rowOf a_oldValue a_placeOf a_olderOfRow a_olderOfAll a_newerOfAll a_changesOf a_numberOf a_openPlace f_size f_time a_row a_value a_before a_who a_number a_kept a_now a_lock a_gone) (hQ : Q) : wpX_clock (fun r => wpY_clock (fun r' => r' = r ∧ Q) (f_size, f_time, a_row, a_value, a_before, a_who, a_number, a_kept, a_now, a_lock, a_gone)) (f_used, f_first, f_last, f_count, f_taken, f_now, a_values, a_newest, a_forgotten, a_rowOf, a_oldValue, a_placeOf, a_olderOfRow, a_olderOfAll, a_newerOfAll, a_changesOf, a_numberOf, a_openPlace) := by
  obtain ⟨⟨a1, a2, _⟩, _⟩ := h
  refine And.intro ?_ hQ
  rw [a1, a2]
theorem ud_q_raw (h : ud_R k sz t U g f_used f_first f_last f_count f_taken f_now a_values a_newest a_forgotten a_rowOf a_oldValue a_placeOf a_olderOfRow a_olderOfAll a_newerOfAll a_changesOf a_numberOf a_openPlace f_size f_time a_row a_value a_before a_who a_number a_kept a_now a_lock a_gone) (hQ : Q) (v : Int32) : wpX_raw (fun r => wpY_raw (fun r' => r' = r ∧ Q) (f_size, f_time, a_row, a_value, a_before, a_who, a_number, a_kept, a_now, a_lock, a_gone) v) (f_used, f_first, f_last, f_count, f_taken, f_now, a_values, a_newest, a_forgotten, a_rowOf, a_oldValue, a_placeOf, a_olderOfRow, a_olderOfAll, a_newerOfAll, a_changesOf, a_numberOf, a_openPlace) v := by
  obtain ⟨⟨_, _, _, _, _, a6, a7⟩, _⟩ := h
  unfold wpX_raw wpY_raw
  have key : (v < 0 ∨ (¬ v < 0 ∧ 8 ≤ v ∧ 7 < v)) ∨ ∃ j : Nat, j < 8 ∧ v = nI j := by
    rcases ud_ix8 v with a | a | a
    · exact Or.inl (Or.inl a)
    · exact Or.inl (Or.inr a)
    · exact Or.inr a
  rcases key with a | ⟨j, hj, rfl⟩
  · exact ud_xrow0 a (br_t rfl (ud_yrow0 a (br_t rfl ⟨rfl, hQ⟩)))
  · refine ud_xrow1 hj (br_f (by decide) ⟨vp_in_nI hj (by decide), ?_⟩)
    refine ud_yrow1 hj (br_f (by decide) ⟨vp_in_nI hj (by decide), ?_, hQ⟩)
    rw [ud_cl (by omega), a6 j hj]
theorem ud_q_oldest (h : ud_R k sz t U g f_used f_first f_last f_count f_taken f_now a_values a_newest a_forgotten a_rowOf a_oldValue a_placeOf a_olderOfRow a_olderOfAll a_newerOfAll a_changesOf a_numberOf a_openPlace f_size f_time a_row a_value a_before a_who a_number a_kept a_now a_lock a_gone) (hQ : Q) (v : Int32) : wpX_oldest (fun r => wpY_oldest (fun r' => r' = r ∧ Q) (f_size, f_time, a_row, a_value, a_before, a_who, a_number, a_kept, a_now, a_lock, a_gone) v) (f_used, f_first, f_last, f_count, f_taken, f_now, a_values, a_newest, a_forgotten, a_rowOf, a_oldValue, a_placeOf, a_olderOfRow, a_olderOfAll, a_newerOfAll, a_changesOf, a_numberOf, a_openPlace) v := by
  obtain ⟨⟨_, _, _, _, _, a6, a7⟩, _⟩ := h
  unfold wpX_oldest wpY_oldest
  have key : (v < 0 ∨ (¬ v < 0 ∧ 8 ≤ v ∧ 7 < v)) ∨ ∃ j : Nat, j < 8 ∧ v = nI j := by
    rcases ud_ix8 v with a | a | a
    · exact Or.inl (Or.inl a)
    · exact Or.inl (Or.inr a)
    · exact Or.inr a
  rcases key with a | ⟨j, hj, rfl⟩
  · exact ud_xrow0 a (br_t rfl (ud_yrow0 a (br_t rfl ⟨rfl, hQ⟩)))
  · refine ud_xrow1 hj (br_f (by decide) ⟨vp_in_nI hj (by decide), ?_⟩)
    refine ud_yrow1 hj (br_f (by decide) ⟨vp_in_nI hj (by decide), ?_, hQ⟩)
    rw [ud_cl (by omega), a7 j hj]
theorem ud_q_remembered (h : ud_R k sz t U g f_used f_first f_last f_count f_taken f_now a_values a_newest a_forgotten a_rowOf a_oldValue a_placeOf a_olderOfRow a_olderOfAll a_newerOfAll a_changesOf a_numberOf a_openPlace f_size f_time a_row a_value a_before a_who a_number a_kept a_now a_lock a_gone) (hk : k + 4 ≤ 2048) (hQ : Q) : wpX_remembered (fun r => wpY_remembered (fun r' => r' = r ∧ Q) (f_size, f_time, a_row, a_value, a_before, a_who, a_number, a_kept, a_now, a_lock, a_gone)) (f_used, f_first, f_last, f_count, f_taken, f_now, a_values, a_newest, a_forgotten, a_rowOf, a_oldValue, a_placeOf, a_olderOfRow, a_olderOfAll, a_newerOfAll, a_changesOf, a_numberOf, a_openPlace) := by
  have e := ud_cntK h
  obtain ⟨⟨_, _, a3, a4, _, _, _⟩, hX, _⟩ := h
  have hz := ud_sz a4 hk
  unfold wpX_remembered
  refine ud_yrem a3 (by omega) ⟨?_, hQ⟩
  rw [hX.2.2.2.2.2.1.1, e]
theorem ud_q_changes (h : ud_R k sz t U g f_used f_first f_last f_count f_taken f_now a_values a_newest a_forgotten a_rowOf a_oldValue a_placeOf a_olderOfRow a_olderOfAll a_newerOfAll a_changesOf a_numberOf a_openPlace f_size f_time a_row a_value a_before a_who a_number a_kept a_now a_lock a_gone) (hk : k + 4 ≤ 2048) (hQ : Q) (v : Int32) : wpX_changes (fun r => wpY_changes (fun r' => r' = r ∧ Q) (f_size, f_time, a_row, a_value, a_before, a_who, a_number, a_kept, a_now, a_lock, a_gone) v) (f_used, f_first, f_last, f_count, f_taken, f_now, a_values, a_newest, a_forgotten, a_rowOf, a_oldValue, a_placeOf, a_olderOfRow, a_olderOfAll, a_newerOfAll, a_changesOf, a_numberOf, a_openPlace) v := by
  have hO := fun x p hx hp ho => ud_cntO h (x := x) (p := p) hx hp ho
  obtain ⟨⟨_, _, a3, a4, _, _, _⟩, hX, _, _, hZ⟩ := h
  have hz := ud_sz a4 hk
  unfold wpX_changes
  have key : (v < 0 ∨ (¬ v < 0 ∧ 4 ≤ v ∧ 3 < v)) ∨ ∃ j : Nat, j < 4 ∧ v = nI j := by
    rcases ud_ix4 v with a | a | a
    · exact Or.inl (Or.inl a)
    · exact Or.inl (Or.inr a)
    · exact Or.inr a
  rcases key with a | ⟨j, hj, rfl⟩
  · exact ud_xses0 a (br_t rfl (ud_ychs0 a3 (by omega) a ⟨rfl, hQ⟩))
  · refine ud_xses1 hj (br_f (by decide) ⟨vp_in_nI hj (by decide), ?_⟩)
    rw [ud_cl (by omega)]
    rcases hZ.2.2.1 j hj with ⟨b1, b2⟩ | ⟨p, p1, p2, _⟩
    · refine br_t (by rw [b1]; decide) ?_
      refine ud_ychs1 a3 (by omega) hj ⟨?_, hQ⟩
      rw [ud_cn_none sz (fun i hi => ?_)]
      · rfl
      · unfold ud_OP
        by_cases y : a_number i = 0
        · rw [decide_eq_false (b2 i hi y), Bool.false_and]
        · rw [decide_eq_false y, Bool.and_false]
    · rw [p2]
      refine br_f (nI_pos (by omega)) ⟨vp_in_nI hj (by decide), vp_in_nI p1 (by decide), ?_⟩
      refine ud_ychs1 a3 (by omega) hj ⟨?_, hQ⟩
      rw [ud_cl (by omega), hX.2.2.2.2.2.1.2 p p1, hO j p hj p1 p2]
/-! holder -/
theorem ud_hol_n {post : Int32 → Prop} (K : post (-4)) : ∀ n i, i ≤ 4 → 4 < n + i → wX_holder_18 post (-1) f_used f_first f_last f_count f_taken f_now a_values a_newest a_forgotten a_rowOf a_oldValue a_placeOf a_olderOfRow a_olderOfAll a_newerOfAll a_changesOf a_numberOf a_openPlace n (nI i) := by
  intro n
  induction n with
  | zero => intro i h1 h2; omega
  | succ n ih =>
    intro i h1 h2
    unfold wX_holder_18
    by_cases z : i = 4
    · subst z
      exact br_t (Int32.le_refl _) K
    · refine br_f (nI_ge (b := 4) (by omega) (by decide)) (br_t ud_m1neg ?_)
      intro x ex
      rw [ex, nI_1]
      exact ih (i + 1) (by omega) (by omega)
theorem ud_hol_p {post : Int32 → Prop} {x p : Nat} (hx : x < 4) (hp : p < 32) (ho : a_openPlace x = nI p) (hu : ∀ y, y < 4 → a_openPlace y = nI p → y = x) (K : post (nI x)) : ∀ n i, i ≤ x → 4 < n + i → wX_holder_18 post (nI p) f_used f_first f_last f_count f_taken f_now a_values a_newest a_forgotten a_rowOf a_oldValue a_placeOf a_olderOfRow a_olderOfAll a_newerOfAll a_changesOf a_numberOf a_openPlace n (nI i) := by
  intro n
  induction n with
  | zero => intro i h1 h2; omega
  | succ n ih =>
    intro i h1 h2
    unfold wX_holder_18
    refine br_f (nI_ge (b := 4) (by omega) (by decide)) (br_f (nI_pos (by omega)) ⟨vp_in_nI (by omega) (by decide), ?_⟩)
    rw [ud_cl (by omega)]
    by_cases z : a_openPlace i = nI p
    · refine br_t z ?_
      rw [hu i (by omega) z]
      exact K
    · refine br_f z ?_
      intro y ey
      rw [ey, nI_1]
      have : i ≠ x := fun q => z (by rw [q]; exact ho)
      exact ih (i + 1) (by omega) (by omega)
theorem ud_q_holder (h : ud_R k sz t U g f_used f_first f_last f_count f_taken f_now a_values a_newest a_forgotten a_rowOf a_oldValue a_placeOf a_olderOfRow a_olderOfAll a_newerOfAll a_changesOf a_numberOf a_openPlace f_size f_time a_row a_value a_before a_who a_number a_kept a_now a_lock a_gone) (hQ : Q) (v : Int32) : wpX_holder (fun r => wpY_holder (fun r' => r' = r ∧ Q) (f_size, f_time, a_row, a_value, a_before, a_who, a_number, a_kept, a_now, a_lock, a_gone) v) (f_used, f_first, f_last, f_count, f_taken, f_now, a_values, a_newest, a_forgotten, a_rowOf, a_oldValue, a_placeOf, a_olderOfRow, a_olderOfAll, a_newerOfAll, a_changesOf, a_numberOf, a_openPlace) v := by
  unfold wpX_holder wpY_holder
  have key : (v < 0 ∨ (¬ v < 0 ∧ 8 ≤ v ∧ 7 < v)) ∨ ∃ j : Nat, j < 8 ∧ v = nI j := by
    rcases ud_ix8 v with a | a | a
    · exact Or.inl (Or.inl a)
    · exact Or.inl (Or.inr a)
    · exact Or.inr a
  rcases key with a | ⟨j, hj, rfl⟩
  · exact ud_xrow0 a (br_t rfl (ud_yrow0 a (br_t rfl ⟨rfl, hQ⟩)))
  · refine ud_xrow1 hj (br_f (by decide) ?_)
    refine ud_lock hj h (fun e => ?_) (fun x p hx hp e1 e2 => ?_)
    · refine ⟨5, ud_hol_n ?_ 5 0 (by omega) (by omega)⟩
      refine ud_yrow1 hj (br_f (by decide) ⟨vp_in_nI hj (by decide), ?_, hQ⟩)
      rw [ud_cl (by omega), e]
    · refine ⟨5, ud_hol_p hx hp e2 (fun y hy q => ?_) ?_ 5 0 (by omega) (by omega)⟩
      · exact h.2.2.2.2.2.2.2.1 y x hy hx (by rw [q]; exact ud_nm1 (by omega)) (by rw [q, e2])
      · refine ud_yrow1 hj (br_f (by decide) ⟨vp_in_nI hj (by decide), ?_, hQ⟩)
        rw [ud_cl (by omega), e1]
/-! locks -/
theorem ud_locks0 {x : Int32} (h : ud_R k sz t U g f_used f_first f_last f_count f_taken f_now a_values a_newest a_forgotten a_rowOf a_oldValue a_placeOf a_olderOfRow a_olderOfAll a_newerOfAll a_changesOf a_numberOf a_openPlace f_size f_time a_row a_value a_before a_who a_number a_kept a_now a_lock a_gone) (hx : x < 0 ∨ (¬ x < 0 ∧ 4 ≤ x ∧ 3 < x)) : ∀ n i (s : Int32), i ≤ 8 → 8 < n + i → (∀ post : Int32 → Prop, post s → wX_locks_4 post x f_used f_first f_last f_count f_taken f_now a_values a_newest a_forgotten a_rowOf a_oldValue a_placeOf a_olderOfRow a_olderOfAll a_newerOfAll a_changesOf a_numberOf a_openPlace n s (nI i)) ∧ (∀ post : Int32 → Prop, post s → wY_locks_4 post x f_size f_time a_row a_value a_before a_who a_number a_kept a_now a_lock a_gone n s (nI i)) := by
  intro n
  induction n with
  | zero => intro i s h1 h2; omega
  | succ n ih =>
    intro i s h1 h2
    by_cases z : i = 8
    · subst z
      exact ⟨fun post K => br_t (Int32.le_refl _) K, fun post K => br_t (Int32.le_refl _) K⟩
    · obtain ⟨i1, i2⟩ := ih (i + 1) s (by omega) (by omega)
      refine ⟨fun post K => ?_, fun post K => ?_⟩
      · unfold wX_locks_4
        refine br_f (nI_ge (b := 8) (by omega) (by decide)) ?_
        have w : ∀ y : Int32, y = nI i + 1 → wX_locks_4 post x f_used f_first f_last f_count f_taken f_now a_values a_newest a_forgotten a_rowOf a_oldValue a_placeOf a_olderOfRow a_olderOfAll a_newerOfAll a_changesOf a_numberOf a_openPlace n s y := fun y ey => by
          rw [ey, nI_1]; exact i1 post K
        exact ud_lock (by omega) h (fun _ => ud_xses0 hx (br_t rfl w)) (fun _ _ _ _ _ _ => ud_xses0 hx (br_t rfl w))
      · unfold wY_locks_4
        refine br_f (nI_ge (b := 8) (by omega) (by decide)) ?_
        refine ud_yses0 hx (br_t rfl ?_)
        intro y ey
        rw [ey, nI_1]; exact i2 post K
theorem ud_locks1 {x : Nat} (h : ud_R k sz t U g f_used f_first f_last f_count f_taken f_now a_values a_newest a_forgotten a_rowOf a_oldValue a_placeOf a_olderOfRow a_olderOfAll a_newerOfAll a_changesOf a_numberOf a_openPlace f_size f_time a_row a_value a_before a_who a_number a_kept a_now a_lock a_gone) (hx : x < 4) : ∀ n i (s : Int32), i ≤ 8 → 8 < n + i → ∃ res : Int32, (∀ post : Int32 → Prop, post res → wX_locks_4 post (nI x) f_used f_first f_last f_count f_taken f_now a_values a_newest a_forgotten a_rowOf a_oldValue a_placeOf a_olderOfRow a_olderOfAll a_newerOfAll a_changesOf a_numberOf a_openPlace n s (nI i)) ∧ (∀ post : Int32 → Prop, post res → wY_locks_4 post (nI x) f_size f_time a_row a_value a_before a_who a_number a_kept a_now a_lock a_gone n s (nI i)) := by
  intro n
  induction n with
  | zero => intro i s h1 h2; omega
  | succ n ih =>
    intro i s h1 h2
    by_cases z : i = 8
    · subst z
      exact ⟨s, fun post K => br_t (Int32.le_refl _) K, fun post K => br_t (Int32.le_refl _) K⟩
    · by_cases y : a_lock i = nI x
      · obtain ⟨res, i1, i2⟩ := ih (i + 1) (s ||| ((1 : Int32) <<< (nI i &&& 31))) (by omega) (by omega)
        refine ⟨res, fun post K => ?_, fun post K => ?_⟩
        · unfold wX_locks_4
          refine br_f (nI_ge (b := 8) (by omega) (by decide)) ?_
          refine ud_lock (by omega) h (fun q => ?_) (fun x' p hx' hp e1 e2 => ?_)
          · rw [y] at q; exact absurd q (ud_nm4 (by omega))
          · have e3 : x' = x := by
              rw [y] at e1; exact (ud_inj (by omega) (by omega) e1).symm
            refine ud_xses1 hx (br_f (by decide) (br_f (nI_pos (by omega)) ⟨vp_in_nI hx (by decide), ?_⟩))
            rw [ud_cl (by omega), ← e3, e2]
            refine br_t rfl ?_
            intro s2 es2 y2 ey2
            rw [es2, ey2, nI_1, e3]
            exact i1 post K
        · unfold wY_locks_4
          refine br_f (nI_ge (b := 8) (by omega) (by decide)) ?_
          refine ud_yses1 hx (br_f (by decide) ⟨vp_in_nI (by omega) (by decide), ?_⟩)
          rw [ud_cl (by omega)]
          refine br_t y ?_
          intro s2 es2 y2 ey2
          rw [es2, ey2, nI_1]
          exact i2 post K
      · obtain ⟨res, i1, i2⟩ := ih (i + 1) s (by omega) (by omega)
        refine ⟨res, fun post K => ?_, fun post K => ?_⟩
        · unfold wX_locks_4
          refine br_f (nI_ge (b := 8) (by omega) (by decide)) ?_
          refine ud_lock (by omega) h (fun q => ?_) (fun x' p hx' hp e1 e2 => ?_)
          · refine ud_xses1 hx (br_f (by decide) (br_t ud_m1neg ?_))
            intro y2 ey2
            rw [ey2, nI_1]
            exact i1 post K
          · refine ud_xses1 hx (br_f (by decide) (br_f (nI_pos (by omega)) ⟨vp_in_nI hx (by decide), ?_⟩))
            rw [ud_cl (by omega)]
            refine br_f (fun q => y ?_) ?_
            · have e3 := h.2.2.2.2.2.2.2.1 x' x hx' hx (by rw [e2]; exact ud_nm1 (by omega)) (by rw [e2]; exact q)
              rw [← e3]; exact e1
            · intro y2 ey2
              rw [ey2, nI_1]
              exact i1 post K
        · unfold wY_locks_4
          refine br_f (nI_ge (b := 8) (by omega) (by decide)) ?_
          refine ud_yses1 hx (br_f (by decide) ⟨vp_in_nI (by omega) (by decide), ?_⟩)
          rw [ud_cl (by omega)]
          refine br_f y ?_
          intro y2 ey2
          rw [ey2, nI_1]
          exact i2 post K
theorem ud_q_locks (h : ud_R k sz t U g f_used f_first f_last f_count f_taken f_now a_values a_newest a_forgotten a_rowOf a_oldValue a_placeOf a_olderOfRow a_olderOfAll a_newerOfAll a_changesOf a_numberOf a_openPlace f_size f_time a_row a_value a_before a_who a_number a_kept a_now a_lock a_gone) (hQ : Q) (v : Int32) : wpX_locks (fun r => wpY_locks (fun r' => r' = r ∧ Q) (f_size, f_time, a_row, a_value, a_before, a_who, a_number, a_kept, a_now, a_lock, a_gone) v) (f_used, f_first, f_last, f_count, f_taken, f_now, a_values, a_newest, a_forgotten, a_rowOf, a_oldValue, a_placeOf, a_olderOfRow, a_olderOfAll, a_newerOfAll, a_changesOf, a_numberOf, a_openPlace) v := by
  have key : (v < 0 ∨ (¬ v < 0 ∧ 4 ≤ v ∧ 3 < v)) ∨ ∃ j : Nat, j < 4 ∧ v = nI j := by
    rcases ud_ix4 v with a | a | a
    · exact Or.inl (Or.inl a)
    · exact Or.inl (Or.inr a)
    · exact Or.inr a
  rcases key with a | ⟨j, hj, rfl⟩
  · obtain ⟨i1, i2⟩ := ud_locks0 h a 9 0 0 (by omega) (by omega)
    exact ⟨9, i1 _ ⟨9, i2 _ ⟨rfl, hQ⟩⟩⟩
  · obtain ⟨res, i1, i2⟩ := ud_locks1 h hj 9 0 0 (by omega) (by omega)
    exact ⟨9, i1 _ ⟨9, i2 _ ⟨rfl, hQ⟩⟩⟩
end
end
section
theorem ud_cn_lt {f h : Nat → Bool} {e n : Nat} (hs : ∀ i, i < n → f i = true → h i = true) (hf : f e = false) (hh : h e = true) (hn : e < n) : ud_cn f n + 1 ≤ ud_cn h n := by
  have a := ud_cn_add (f := f) (g := fun i => f i || decide (i = e)) (e := e) hf (by
    show (f e || decide (e = e)) = true
    rw [decide_eq_true rfl, Bool.or_true]) (fun j hj => by
    show (f j || decide (j = e)) = f j
    rw [decide_eq_false hj, Bool.or_false]) n hn
  have b := ud_cn_inj (A := fun i => f i || decide (i = e)) (h := fun i => i) (m := n) n h (fun c hc ac => by
    refine ⟨hc, ?_⟩
    have ac' : (f c || decide (c = e)) = true := ac
    rw [Bool.or_eq_true] at ac'
    rcases ac' with q | q
    · exact hs c hc q
    · rw [of_decide_eq_true q]; exact hh) (fun c d _ _ _ _ q => q)
  omega
section
variable {f_used f_first f_last f_count f_taken f_now : Int32} {a_values a_newest a_forgotten a_rowOf a_oldValue a_placeOf a_olderOfRow a_olderOfAll a_newerOfAll a_changesOf a_numberOf a_openPlace : Nat → Int32} {f_size f_time : Int32} {a_row a_value a_before a_who a_number a_kept a_now a_lock a_gone : Nat → Int32} {k sz t : Nat} {U : Nat → Bool} {g : Nat → Nat} {Q : Prop}
theorem ud_isAfter {post : Int32 → Prop} {c p : Nat} {s : Int32} (hc : c < 24) (hp : p < 32) (hpl : a_placeOf c = nI p) (h1 : a_numberOf p = 0 → post 1) (h2 : ¬ a_numberOf p = 0 → a_numberOf p ≤ s → post 0) (h3 : ¬ a_numberOf p = 0 → ¬ a_numberOf p ≤ s → post 1) : wpX_isAfter post (f_used, f_first, f_last, f_count, f_taken, f_now, a_values, a_newest, a_forgotten, a_rowOf, a_oldValue, a_placeOf, a_olderOfRow, a_olderOfAll, a_newerOfAll, a_changesOf, a_numberOf, a_openPlace) (nI c) s := by
  refine And.intro (vp_in_nI hc (by decide)) ?_
  rw [ud_cl (by omega), hpl]
  intro x ex
  subst ex
  refine ud_isOpen hp (fun z => br_f (by decide) (h1 z)) (fun z => br_t rfl ⟨vp_in_nI hp (by decide), ?_⟩)
  rw [ud_cl (by omega)]
  exact br_c (h2 z) (h3 z)
theorem ud_PLt {row num : Nat → Int32} {r : Int32} {i : Nat} (a : row i = r) (b : ¬ num i = -1) : ud_PL row num r i = true := by
  unfold ud_PL
  rw [decide_eq_true a, decide_eq_false b]
  rfl
theorem ud_PLi {row num : Nat → Int32} {r : Int32} {i : Nat} (h : ud_PL row num r i = true) : row i = r ∧ ¬ num i = -1 := by
  unfold ud_PL at h
  rw [Bool.and_eq_true] at h
  refine ⟨of_decide_eq_true h.1, fun q => ?_⟩
  have h2 := h.2
  rw [decide_eq_true q] at h2
  exact absurd h2 (by decide)
theorem ud_PSt {row num : Nat → Int32} {r s : Int32} {i : Nat} (a : row i = r) (b : ¬ num i ≤ 0) (c : ¬ s < num i) : ud_PS row num r s i = true := by
  unfold ud_PS
  rw [decide_eq_true a, decide_eq_false b, decide_eq_false c]
  rfl
theorem ud_PSi {row num : Nat → Int32} {r s : Int32} {i : Nat} (h : ud_PS row num r s i = true) : row i = r ∧ ¬ num i ≤ 0 ∧ ¬ s < num i := by
  unfold ud_PS at h
  rw [Bool.and_eq_true, Bool.and_eq_true] at h
  refine ⟨of_decide_eq_true h.1, fun q => ?_, fun q => ?_⟩
  · have h2 := h.2.1
    rw [decide_eq_true q] at h2
    exact absurd h2 (by decide)
  · have h2 := h.2.2
    rw [decide_eq_true q] at h2
    exact absurd h2 (by decide)
theorem ud_PSL {row num : Nat → Int32} {r s : Int32} {i : Nat} (h : ud_PL row num r i = false) : ud_PS row num r s i = false := by
  apply ud_nt
  intro q
  obtain ⟨a, b, c⟩ := ud_PSi q
  rw [ud_PLt a (fun w => b (by rw [w]; decide))] at h
  exact absurd h (by decide)
/-- between two remembered changes of a row lies none that counts -/
theorem ud_gap (h : ud_R k sz t U g f_used f_first f_last f_count f_taken f_now a_values a_newest a_forgotten a_rowOf a_oldValue a_placeOf a_olderOfRow a_olderOfAll a_newerOfAll a_changesOf a_numberOf a_openPlace f_size f_time a_row a_value a_before a_who a_number a_kept a_now a_lock a_gone) {r c T i : Nat} (hr : r < 8) (uc : U c = true) (hT : T ≤ sz) (hm : ∀ d, U d = true → a_rowOf d = nI r → g d < T → g d ≤ g c) (h1 : g c < i) (h2 : i < T) : ud_PL a_row a_number (nI r) i = false := by
  obtain ⟨_, hX, hW, hY, hZ⟩ := h
  apply ud_nt
  intro q
  obtain ⟨q1, q2⟩ := ud_PLi q
  by_cases z : a_kept i = 0
  · have := (hY.2.2.1 i (by omega) z q2).2 (g c) (hZ.1 c uc).1 (hZ.1 c uc).2.1
    omega
  · obtain ⟨d, u1, u2⟩ := hZ.2.1 i (by omega) z
    have := hm d u1 (by rw [(hZ.1 d u1).2.2.1, u2]; exact q1) (by omega)
    omega
theorem ud_seen31 {post : Int32 → Prop} {r : Nat} {s : Int32} (h : ud_R k sz t U g f_used f_first f_last f_count f_taken f_now a_values a_newest a_forgotten a_rowOf a_oldValue a_placeOf a_olderOfRow a_olderOfAll a_newerOfAll a_changesOf a_numberOf a_openPlace f_size f_time a_row a_value a_before a_who a_number a_kept a_now a_lock a_gone) (ht : t < 512) (hr : r < 8) (hf : a_forgotten r ≤ s) (K : post (ud_lv (ud_PS a_row a_number (nI r) s) a_value sz)) :
    ∀ n i T (x3 x4 : Int32), i ≤ 24 → 24 < n + i → T ≤ sz → x3 = ud_lv (ud_PL a_row a_number (nI r)) a_value T → ud_lv (ud_PS a_row a_number (nI r) s) a_value sz = ud_lv (ud_PS a_row a_number (nI r) s) a_value T → ud_Mx (fun d => U d = true ∧ a_rowOf d = nI r ∧ g d < T) (ud_ps g) x4 → ud_cn (fun c => U c && (decide (a_rowOf c = nI r) && decide (g c < T))) 24 + i ≤ 24 → wX_seen_31 post s f_used f_first f_last f_count f_taken f_now a_values a_newest a_forgotten a_rowOf a_oldValue a_placeOf a_olderOfRow a_olderOfAll a_newerOfAll a_changesOf a_numberOf a_openPlace n x3 x4 (nI i) := by
  have hgap := fun c T i uc hT hm h1 h2 => ud_gap h (r := r) (c := c) (T := T) (i := i) hr uc hT hm h1 h2
  obtain ⟨⟨_, _, _, _, _, _, a7⟩, hX, hW, hY, hZ⟩ := h
  have hpos : ∀ i, i < sz → ¬ a_number i = -1 → ¬ a_number i = 0 → ¬ a_number i ≤ 0 := by
    intro i hi q2 q4
    rcases (hY.1 i hi).2.2 with w | ⟨m, m1, m2⟩
    · exact absurd w q2
    · rw [m2]
      rw [m2] at q4
      exact nI_nle (Nat.pos_of_ne_zero (fun v => q4 (by rw [v]; exact nI_0))) (by omega)
  have hend : ∀ T, T ≤ sz → (∀ d, ¬ (U d = true ∧ a_rowOf d = nI r ∧ g d < T)) → ud_lv (ud_PL a_row a_number (nI r)) a_value T = ud_lv (ud_PS a_row a_number (nI r) s) a_value T := by
    intro T hT hd
    refine ud_lv_cg T (fun i hi => ?_) (fun _ _ _ => rfl)
    by_cases z : ud_PL a_row a_number (nI r) i = true
    · rw [z]
      obtain ⟨q1, q2⟩ := ud_PLi z
      by_cases y : a_kept i = 0
      · have q3 := (hY.2.2.1 i (by omega) y q2).1 r hr q1
        rw [← a7 r hr] at q3
        have q4 : ¬ a_number i = 0 := fun w => (hY.2.1 i (by omega)).1 w y
        exact (ud_PSt q1 (hpos i (by omega) q2 q4) (Int32.not_lt.mpr (Int32.le_trans q3 hf))).symm
      · obtain ⟨d, u1, u2⟩ := hZ.2.1 i (by omega) y
        exact absurd ⟨u1, by rw [(hZ.1 d u1).2.2.1, u2]; exact q1, by omega⟩ (hd d)
    · rw [ud_nt z, ud_PSL (ud_nt z)]
  intro n
  induction n with
  | zero => intro i T x3 x4 h1 h2; omega
  | succ n ih =>
    intro i T x3 x4 h1 h2 hT e3 eS mx hc
    unfold wX_seen_31
    have hstop : (∀ d, ¬ (U d = true ∧ a_rowOf d = nI r ∧ g d < T)) → post x3 := fun hd => by
      rw [e3, hend T hT hd, ← eS]; exact K
    by_cases z : i = 24
    · refine br_t (by rw [z]; exact Int32.le_refl _) (hstop ?_)
      intro d ⟨d1, d2, d3⟩
      have q := ud_cn_zero 24 (show ud_cn (fun c => U c && (decide (a_rowOf c = nI r) && decide (g c < T))) 24 = 0 by omega) d (hX.1 d d1)
      have q' : (U d && (decide (a_rowOf d = nI r) && decide (g d < T))) = false := q
      rw [d1, decide_eq_true d2, decide_eq_true d3] at q'
      exact absurd q' (by decide)
    · refine br_f (nI_ge (b := 24) (by omega) (by decide)) ?_
      by_cases y : x4 < 0
      · exact br_t y (hstop (ud_mx_neg mx y).2)
      · refine br_f y ?_
        obtain ⟨c, c1, c2, c3, c4⟩ := ud_mx_nn mx y
        obtain ⟨uc, ro, gT⟩ := c3
        obtain ⟨p, p1, p2⟩ := hX.2.2.2.2.1 c uc
        obtain ⟨w1, w2, w3, w4, w5, w6⟩ := hZ.1 c uc
        have e := w5 p p1 p2
        have hrow : a_row (g c) = nI r := by rw [← w3]; exact ro
        have hm : ∀ d, U d = true → a_rowOf d = nI r → g d < T → g d ≤ g c := fun d u1 u2 u3 => Int.ofNat_le.mp (c4 d ⟨u1, u2, u3⟩)
        have hnm := (hY.2.1 (g c) w1).2 w2
        subst c2
        have hafter : (a_number (g c) = 0 ∨ ¬ a_number (g c) ≤ s) → (vp_in (nI c) 24 ∧ ∀ x3_30 : Int32, x3_30 = a_oldValue (nI c).toNatClampNeg → (vp_in (nI c) 24 ∧ ∀ x4_32 : Int32, x4_32 = a_olderOfRow (nI c).toNatClampNeg → ∀ x5_33 : Int32, x5_33 = nI i + 1 → wX_seen_31 post s f_used f_first f_last f_count f_taken f_now a_values a_newest a_forgotten a_rowOf a_oldValue a_placeOf a_olderOfRow a_olderOfAll a_newerOfAll a_changesOf a_numberOf a_openPlace n x3_30 x4_32 x5_33)) := by
          intro ha
          refine ⟨vp_in_nI c1 (by decide), ?_⟩
          intro x3' e3'
          refine ⟨vp_in_nI c1 (by decide), ?_⟩
          intro x4' e4' x5' e5'
          rw [ud_cl (by omega)] at e3' e4'
          rw [e5', nI_1]
          refine ih (i + 1) (g c) x3' x4' (by omega) (by omega) (by omega) ?_ ?_ ?_ ?_
          · rw [e3', w4, hY.2.2.2.2.1 (g c) w1 hnm, hrow]
          · rw [eS]
            refine ud_lv_skip T (by omega) (fun j a b => ?_)
            by_cases v : j = g c
            · apply ud_nt
              intro q
              obtain ⟨_, q2, q3⟩ := ud_PSi q
              rw [v] at q2 q3
              rcases ha with u | u
              · exact q2 (by rw [u]; exact Int32.le_refl _)
              · exact u (Int32.not_lt.mp q3)
            · exact ud_PSL (hgap c T j uc hT hm (by omega) b)
          · rw [e4']
            refine ud_mx_cg (fun d => ?_) (hW.2 c uc)
            rw [ro]
            exact ⟨fun ⟨a, b, q⟩ => ⟨a, b, Int.ofNat_lt.mp q⟩, fun ⟨a, b, q⟩ => ⟨a, b, Int.ofNat_lt.mpr q⟩⟩
          · have q := ud_cn_lt (f := fun d => U d && (decide (a_rowOf d = nI r) && decide (g d < g c))) (h := fun d => U d && (decide (a_rowOf d = nI r) && decide (g d < T))) (e := c) (n := 24) (fun d _ hd => by
              have hd' : (U d && (decide (a_rowOf d = nI r) && decide (g d < g c))) = true := hd
              show (U d && (decide (a_rowOf d = nI r) && decide (g d < T))) = true
              rw [Bool.and_eq_true, Bool.and_eq_true] at hd'
              have v : g d < g c := of_decide_eq_true hd'.2.2
              rw [hd'.1, hd'.2.1, decide_eq_true (show g d < T by omega)]
              rfl) (by
              show (U c && (decide (a_rowOf c = nI r) && decide (g c < g c))) = false
              rw [decide_eq_false (Nat.lt_irrefl (g c)), Bool.and_false, Bool.and_false]) (by
              show (U c && (decide (a_rowOf c = nI r) && decide (g c < T))) = true
              rw [uc, decide_eq_true ro, decide_eq_true gT]
              rfl) c1
            omega
        refine ud_isAfter c1 p1 p2 (fun q => ?_) (fun q q2 => ?_) (fun q q2 => ?_)
        · exact br_f (by decide) (hafter (Or.inl (by rw [← e]; exact q)))
        · refine br_t rfl ?_
          rw [e] at q q2
          have v1 : ud_lv (ud_PL a_row a_number (nI r)) a_value T = a_value (g c) := ud_lv_hit gT (ud_PLt hrow hnm) (fun j a b => hgap c T j uc hT hm a b)
          have v2 : ud_lv (ud_PS a_row a_number (nI r) s) a_value T = a_value (g c) := ud_lv_hit gT (ud_PSt hrow (hpos (g c) w1 hnm q) (Int32.not_lt.mpr q2)) (fun j a b => ud_PSL (hgap c T j uc hT hm a b))
          rw [e3, v1, ← v2, ← eS]
          exact K
        · exact br_f (by decide) (hafter (Or.inr (by rw [← e]; exact q2)))
theorem ud_seen {post : Int32 → Prop} {r : Nat} {s : Int32} (h : ud_R k sz t U g f_used f_first f_last f_count f_taken f_now a_values a_newest a_forgotten a_rowOf a_oldValue a_placeOf a_olderOfRow a_olderOfAll a_newerOfAll a_changesOf a_numberOf a_openPlace f_size f_time a_row a_value a_before a_who a_number a_kept a_now a_lock a_gone) (ht : t < 512) (hr : r < 8) (h1 : a_forgotten r ≤ s → post (ud_lv (ud_PS a_row a_number (nI r) s) a_value sz)) (h2 : ¬ a_forgotten r ≤ s → post (-2000000000)) : wpX_seen post (f_used, f_first, f_last, f_count, f_taken, f_now, a_values, a_newest, a_forgotten, a_rowOf, a_oldValue, a_placeOf, a_olderOfRow, a_olderOfAll, a_newerOfAll, a_changesOf, a_numberOf, a_openPlace) (nI r) s := by
  refine And.intro (vp_in_nI hr (by decide)) ?_
  rw [ud_cl (by omega)]
  refine br_c (fun hf => ⟨vp_in_nI hr (by decide), ?_⟩) h2
  intro x3 e3
  refine ⟨vp_in_nI hr (by decide), ?_⟩
  intro x4 e4
  refine ⟨25, ?_⟩
  refine ud_seen31 h ht hr hf (h1 hf) 25 0 sz x3 x4 (by omega) (by omega) (Nat.le_refl _) ?_ rfl ?_ ?_
  · rw [e3, h.1.2.2.2.2.2.1 r hr, h.2.2.2.1.2.2.2.2.2.1 r hr]
  · rw [e4]
    refine ud_mx_cg (fun d => ?_) (h.2.2.1.1 r hr)
    exact ⟨fun ⟨a, b⟩ => ⟨a, b, (h.2.2.2.2.1 d a).1⟩, fun ⟨a, b, _⟩ => ⟨a, b⟩⟩
  · rw [Nat.add_zero]
    exact ud_cn_le _ 24
theorem ud_q_read (h : ud_R k sz t U g f_used f_first f_last f_count f_taken f_now a_values a_newest a_forgotten a_rowOf a_oldValue a_placeOf a_olderOfRow a_olderOfAll a_newerOfAll a_changesOf a_numberOf a_openPlace f_size f_time a_row a_value a_before a_who a_number a_kept a_now a_lock a_gone) (hk : k + 4 ≤ 2048) (hQ : Q) (v1 v2 v3 : Int32) : wpX_read (fun r => wpY_read (fun r' => r' = r ∧ Q) (f_size, f_time, a_row, a_value, a_before, a_who, a_number, a_kept, a_now, a_lock, a_gone) v1 v2 v3) (f_used, f_first, f_last, f_count, f_taken, f_now, a_values, a_newest, a_forgotten, a_rowOf, a_oldValue, a_placeOf, a_olderOfRow, a_olderOfAll, a_newerOfAll, a_changesOf, a_numberOf, a_openPlace) v1 v2 v3 := by
  obtain ⟨a1, a2, a3, a4, a5, a6, a7⟩ := h.1
  have hz := ud_sz a4 hk
  have ht := ud_sz a5 hk
  unfold wpX_read wpY_read
  have key : (v1 < 0 ∨ (¬ v1 < 0 ∧ 4 ≤ v1 ∧ 3 < v1)) ∨ ∃ j : Nat, j < 4 ∧ v1 = nI j := by
    rcases ud_ix4 v1 with a | a | a
    · exact Or.inl (Or.inl a)
    · exact Or.inl (Or.inr a)
    · exact Or.inr a
  rcases key with a | ⟨x, hx, rfl⟩
  · exact ud_xses0 a (br_t rfl (ud_yses0 a (br_t rfl ⟨rfl, hQ⟩)))
  have key : (v2 < 0 ∨ (¬ v2 < 0 ∧ 8 ≤ v2 ∧ 7 < v2)) ∨ ∃ j : Nat, j < 8 ∧ v2 = nI j := by
    rcases ud_ix8 v2 with a | a | a
    · exact Or.inl (Or.inl a)
    · exact Or.inl (Or.inr a)
    · exact Or.inr a
  rcases key with a | ⟨r, hr, rfl⟩
  · exact ud_xses1 hx (br_f (by decide) (ud_xrow0 a (br_t rfl (ud_yses1 hx (br_f (by decide) (ud_yrow0 a (br_t rfl ⟨rfl, hQ⟩)))))))
  refine ud_xses1 hx (br_f (by decide) (ud_xrow1 hr (br_f (by decide) ?_)))
  by_cases z : v3 < 0
  · exact br_t z (ud_yses1 hx (br_f (by decide) (ud_yrow1 hr (br_f (by decide) (br_t z ⟨rfl, hQ⟩)))))
  refine br_f z ?_
  by_cases y : v3 ≤ f_now
  · refine br_t y ?_
    have y' : v3 ≤ f_time := by rw [a2, ← a1]; exact y
    have fin : ∀ (P : Int32 → Prop), (¬ a_lock r = nI x) → (∀ w : Int32, (a_gone r ≤ v3 → w = ud_lv (ud_PS a_row a_number (nI r) v3) a_value sz) → (¬ a_gone r ≤ v3 → w = -2000000000) → P w) → wX_read_58 P (nI r) v3 f_used f_first f_last f_count f_taken f_now a_values a_newest a_forgotten a_rowOf a_oldValue a_placeOf a_olderOfRow a_olderOfAll a_newerOfAll a_changesOf a_numberOf a_openPlace := by
      intro P hl hP
      unfold wX_read_58
      refine ud_seen h ht hr (fun q => ?_) (fun q => ?_)
      · exact hP _ (fun _ => rfl) (fun w => absurd (by rw [← a7 r hr]; exact q) w)
      · exact hP _ (fun w => absurd (by rw [a7 r hr]; exact w) q) (fun _ => rfl)
    refine ud_lock hr h (fun e => ?_) (fun x' p hx' hp e1 e2 => ?_)
    · have hl : ¬ a_lock r = nI x := by rw [e]; exact fun q => ud_nm4 (by omega) q.symm
      refine br_t ud_m1neg (fin _ hl (fun w w1 w2 => ?_))
      refine ud_yses1 hx (br_f (by decide) (ud_yrow1 hr (br_f (by decide) (br_f z (br_t y' ⟨vp_in_nI hr (by decide), ?_⟩)))))
      rw [ud_cl (by omega)]
      refine br_f hl ⟨vp_in_nI hr (by decide), ?_⟩
      refine br_c (fun q => ?_) (fun q => ⟨(w2 q).symm, hQ⟩)
      exact ud_yva a3 (by omega) ⟨(w1 q).symm, hQ⟩
    · refine br_f (nI_pos (by omega)) ⟨vp_in_nI hx (by decide), ?_⟩
      rw [ud_cl (by omega)]
      by_cases u : x' = x
      · subst u
        refine br_t e2.symm ⟨vp_in_nI hr (by decide), ?_⟩
        refine ud_yses1 hx (br_f (by decide) (ud_yrow1 hr (br_f (by decide) (br_f z (br_t y' ⟨vp_in_nI hr (by decide), ?_⟩)))))
        rw [ud_cl (by omega)]
        refine br_t e1 ⟨vp_in_nI hr (by decide), ?_, hQ⟩
        rw [a6 r hr]
      · have hl : ¬ a_lock r = nI x := by rw [e1]; exact fun q => u (ud_inj (by omega) (by omega) q)
        refine br_f (fun q => u (h.2.2.2.2.2.2.2.1 x' x hx' hx (by rw [e2]; exact ud_nm1 (by omega)) (by rw [e2]; exact q))) (fin _ hl (fun w w1 w2 => ?_))
        refine ud_yses1 hx (br_f (by decide) (ud_yrow1 hr (br_f (by decide) (br_f z (br_t y' ⟨vp_in_nI hr (by decide), ?_⟩)))))
        rw [ud_cl (by omega)]
        refine br_f hl ⟨vp_in_nI hr (by decide), ?_⟩
        refine br_c (fun q => ?_) (fun q => ⟨(w2 q).symm, hQ⟩)
        exact ud_yva a3 (by omega) ⟨(w1 q).symm, hQ⟩
  · have y' : ¬ v3 ≤ f_time := by rw [a2, ← a1]; exact y
    exact br_f y (ud_yses1 hx (br_f (by decide) (ud_yrow1 hr (br_f (by decide) (br_f z (br_f y' ⟨rfl, hQ⟩))))))
/-! changedSince -/
theorem ud_cs18 (h : ud_R k sz t U g f_used f_first f_last f_count f_taken f_now a_values a_newest a_forgotten a_rowOf a_oldValue a_placeOf a_olderOfRow a_olderOfAll a_newerOfAll a_changesOf a_numberOf a_openPlace f_size f_time a_row a_value a_before a_who a_number a_kept a_now a_lock a_gone) (hk : k + 4 ≤ 2048) (v : Int32) (hv : ¬ v < 0) (hv2 : v ≤ f_now) : ∀ n i (s : Int32), i ≤ 8 → 8 < n + i → ∃ res : Int32, (∀ post : Int32 → Prop, post res → wX_changedSince_18 post v f_used f_first f_last f_count f_taken f_now a_values a_newest a_forgotten a_rowOf a_oldValue a_placeOf a_olderOfRow a_olderOfAll a_newerOfAll a_changesOf a_numberOf a_openPlace n s (nI i)) ∧ (∀ post : Int32 → Prop, post res → wY_changedSince_4 post v f_size f_time a_row a_value a_before a_who a_number a_kept a_now a_lock a_gone n s (nI i)) := by
  obtain ⟨a1, a2, a3, a4, a5, a6, a7⟩ := h.1
  have hz := ud_sz a4 hk
  have ht := ud_sz a5 hk
  have hv3 : ¬ f_time < v := by rw [a2, ← a1]; exact Int32.not_lt.mpr hv2
  intro n
  induction n with
  | zero => intro i s h1 h2; omega
  | succ n ih =>
    intro i s h1 h2
    by_cases z : i = 8
    · subst z
      exact ⟨s, fun post K => br_t (Int32.le_refl _) K, fun post K => br_t (Int32.le_refl _) K⟩
    · have hi : i < 8 := by omega
      by_cases y : a_forgotten i ≤ v
      · have y2 : a_forgotten i ≤ f_now := Int32.le_trans y hv2
        have y3 : ¬ v < a_forgotten i := Int32.not_lt.mpr y
        have y4 : ¬ v < a_gone i := by rw [← a7 i hi]; exact y3
        by_cases w : ud_lv (ud_PS a_row a_number (nI i) v) a_value sz = ud_lv (ud_PS a_row a_number (nI i) f_now) a_value sz
        · obtain ⟨res, i1, i2⟩ := ih (i + 1) s (by omega) (by omega)
          refine ⟨res, fun post K => ?_, fun post K => ?_⟩
          · unfold wX_changedSince_18
            refine br_f (nI_ge (b := 8) (by omega) (by decide)) ?_
            refine ud_seen h ht hi (fun _ => ?_) (fun q => absurd y q)
            refine ud_seen h ht hi (fun _ => ?_) (fun q => absurd y2 q)
            refine ⟨vp_in_nI hi (by decide), ?_⟩
            rw [ud_cl (by omega)]
            refine br_f y3 ?_
            unfold wX_changedSince_58
            refine br_f (by decide) (br_t w ?_)
            intro x2 e2 x3 e3
            rw [e2, e3, nI_1, Int32.or_zero]
            exact i1 post K
          · unfold wY_changedSince_4
            refine br_f (nI_ge (b := 8) (by omega) (by decide)) (br_f hv (br_f hv3 ⟨vp_in_nI hi (by decide), ?_⟩))
            rw [ud_cl (by omega)]
            refine br_f y4 ?_
            refine ud_yva a3 (by omega) (ud_yva a3 (by omega) (br_t (by rw [a2, ← a1]; exact w) ?_))
            intro x3 e3
            rw [e3, nI_1]
            exact i2 post K
        · obtain ⟨res, i1, i2⟩ := ih (i + 1) (s ||| ((1 : Int32) <<< (nI i &&& 31))) (by omega) (by omega)
          refine ⟨res, fun post K => ?_, fun post K => ?_⟩
          · unfold wX_changedSince_18
            refine br_f (nI_ge (b := 8) (by omega) (by decide)) ?_
            refine ud_seen h ht hi (fun _ => ?_) (fun q => absurd y q)
            refine ud_seen h ht hi (fun _ => ?_) (fun q => absurd y2 q)
            refine ⟨vp_in_nI hi (by decide), ?_⟩
            rw [ud_cl (by omega)]
            refine br_f y3 ?_
            unfold wX_changedSince_58
            refine br_f (by decide) (br_f w ?_)
            intro x2 e2 x3 e3
            rw [e2, e3, nI_1]
            exact i1 post K
          · unfold wY_changedSince_4
            refine br_f (nI_ge (b := 8) (by omega) (by decide)) (br_f hv (br_f hv3 ⟨vp_in_nI hi (by decide), ?_⟩))
            rw [ud_cl (by omega)]
            refine br_f y4 ?_
            refine ud_yva a3 (by omega) (ud_yva a3 (by omega) (br_f (by rw [a2, ← a1]; exact w) ?_))
            intro x2 e2 x3 e3
            rw [e2, e3, nI_1]
            exact i2 post K
      · have y3 : v < a_forgotten i := Int32.not_le.mp y
        have y4 : v < a_gone i := by rw [← a7 i hi]; exact y3
        obtain ⟨res, i1, i2⟩ := ih (i + 1) s (by omega) (by omega)
        refine ⟨res, fun post K => ?_, fun post K => ?_⟩
        · have tail : ∀ p q : Int32, vp_in (nI i) 8 ∧ ((v < a_forgotten (nI i).toNatClampNeg → wX_changedSince_58 post (wX_changedSince_18 post v f_used f_first f_last f_count f_taken f_now a_values a_newest a_forgotten a_rowOf a_oldValue a_placeOf a_olderOfRow a_olderOfAll a_newerOfAll a_changesOf a_numberOf a_openPlace n) v s (nI i) p q 0 f_used f_first f_last f_count f_taken f_now a_values a_newest a_forgotten a_rowOf a_oldValue a_placeOf a_olderOfRow a_olderOfAll a_newerOfAll a_changesOf a_numberOf a_openPlace) ∧ (¬ v < a_forgotten (nI i).toNatClampNeg → wX_changedSince_58 post (wX_changedSince_18 post v f_used f_first f_last f_count f_taken f_now a_values a_newest a_forgotten a_rowOf a_oldValue a_placeOf a_olderOfRow a_olderOfAll a_newerOfAll a_changesOf a_numberOf a_openPlace n) v s (nI i) p q 1 f_used f_first f_last f_count f_taken f_now a_values a_newest a_forgotten a_rowOf a_oldValue a_placeOf a_olderOfRow a_olderOfAll a_newerOfAll a_changesOf a_numberOf a_openPlace)) := by
            intro p q
            refine ⟨vp_in_nI hi (by decide), ?_⟩
            rw [ud_cl (by omega)]
            refine br_t y3 ?_
            unfold wX_changedSince_58
            refine br_t rfl ?_
            intro x2 e2 x3 e3
            rw [e2, e3, nI_1, Int32.or_zero]
            exact i1 post K
          unfold wX_changedSince_18
          refine br_f (nI_ge (b := 8) (by omega) (by decide)) ?_
          refine ud_seen h ht hi (fun q => absurd q y) (fun _ => ?_)
          exact ud_seen h ht hi (fun _ => tail _ _) (fun _ => tail _ _)
        · unfold wY_changedSince_4
          refine br_f (nI_ge (b := 8) (by omega) (by decide)) (br_f hv (br_f hv3 ⟨vp_in_nI hi (by decide), ?_⟩))
          rw [ud_cl (by omega)]
          refine br_t y4 ?_
          intro x3 e3
          rw [e3, nI_1]
          exact i2 post K
theorem ud_q_changedSince (h : ud_R k sz t U g f_used f_first f_last f_count f_taken f_now a_values a_newest a_forgotten a_rowOf a_oldValue a_placeOf a_olderOfRow a_olderOfAll a_newerOfAll a_changesOf a_numberOf a_openPlace f_size f_time a_row a_value a_before a_who a_number a_kept a_now a_lock a_gone) (hk : k + 4 ≤ 2048) (hQ : Q) (v : Int32) : wpX_changedSince (fun r => wpY_changedSince (fun r' => r' = r ∧ Q) (f_size, f_time, a_row, a_value, a_before, a_who, a_number, a_kept, a_now, a_lock, a_gone) v) (f_used, f_first, f_last, f_count, f_taken, f_now, a_values, a_newest, a_forgotten, a_rowOf, a_oldValue, a_placeOf, a_olderOfRow, a_olderOfAll, a_newerOfAll, a_changesOf, a_numberOf, a_openPlace) v := by
  obtain ⟨a1, a2, a3, a4, a5, a6, a7⟩ := h.1
  by_cases z : v < 0
  · refine br_t z ⟨1, ?_⟩
    exact br_f (by decide) (br_t z ⟨rfl, hQ⟩)
  · refine br_f z ?_
    by_cases y : v ≤ f_now
    · obtain ⟨res, i1, i2⟩ := ud_cs18 h hk v z y 9 0 0 (by omega) (by omega)
      exact br_t y ⟨9, i1 _ ⟨9, i2 _ ⟨rfl, hQ⟩⟩⟩
    · have y' : f_time < v := by rw [a2, ← a1]; exact Int32.not_le.mp y
      refine br_f y ⟨1, ?_⟩
      exact br_f (by decide) (br_f z (br_t y' ⟨rfl, hQ⟩))
end
end
section
section
variable {f_used f_first f_last f_count f_taken f_now : Int32} {a_values a_newest a_forgotten a_rowOf a_oldValue a_placeOf a_olderOfRow a_olderOfAll a_newerOfAll a_changesOf a_numberOf a_openPlace : Nat → Int32} {f_size f_time : Int32} {a_row a_value a_before a_who a_number a_kept a_now a_lock a_gone : Nat → Int32} {k sz t : Nat} {U : Nat → Bool} {g : Nat → Nat}
theorem ud_key4 (v : Int32) : (v < 0 ∨ (¬ v < 0 ∧ 4 ≤ v ∧ 3 < v)) ∨ ∃ j : Nat, j < 4 ∧ v = nI j := by
  rcases ud_ix4 v with a | a | a
  · exact Or.inl (Or.inl a)
  · exact Or.inl (Or.inr a)
  · exact Or.inr a
theorem ud_key8 (v : Int32) : (v < 0 ∨ (¬ v < 0 ∧ 8 ≤ v ∧ 7 < v)) ∨ ∃ j : Nat, j < 8 ∧ v = nI j := by
  rcases ud_ix8 v with a | a | a
  · exact Or.inl (Or.inl a)
  · exact Or.inl (Or.inr a)
  · exact Or.inr a
theorem ud_PLc {row num num' : Nat → Int32} {r : Int32} {i : Nat} (h : num' i = -1 ↔ num i = -1) : ud_PL row num r i = ud_PL row num' r i := by
  unfold ud_PL
  by_cases z : num i = -1
  · rw [decide_eq_true z, decide_eq_true (h.mpr z)]
  · rw [decide_eq_false z, decide_eq_false (fun q => z (h.mp q))]
theorem ud_R_commit (h : ud_R k sz t U g f_used f_first f_last f_count f_taken f_now a_values a_newest a_forgotten a_rowOf a_oldValue a_placeOf a_olderOfRow a_olderOfAll a_newerOfAll a_changesOf a_numberOf a_openPlace f_size f_time a_row a_value a_before a_who a_number a_kept a_now a_lock a_gone) (hk : k + 4 ≤ 2048) {x p : Nat} (hx : x < 4) (hp : p < 32) (ho : a_openPlace x = nI p) {nu lk : Nat → Int32} (hnu : ∀ i, i < sz → nu i = if a_who i = nI x ∧ a_number i = 0 then nI (t + 1) else a_number i) (hlk : ∀ r, r < 8 → lk r = if a_lock r = nI x then -4 else a_lock r) :
    ud_R (k + 4) sz (t + 1) U g f_used f_first f_last f_count f_taken (nI (t + 1)) a_values a_newest a_forgotten a_rowOf a_oldValue a_placeOf a_olderOfRow a_olderOfAll a_newerOfAll a_changesOf (upd a_numberOf p (nI (t + 1))) (upd a_openPlace x (-1)) f_size (nI (t + 1)) a_row a_value a_before a_who nu a_kept a_now lk a_gone := by
  have hpl := fun c uc => ud_place h (c := c) hx hp ho uc
  obtain ⟨⟨a1, a2, a3, a4, a5, a6, a7⟩, hX, hW, ⟨y1, y2, y3, y4, y5, y6, y7, y8⟩, z1, z2, z3, z4, z5⟩ := h
  have ht : t < 512 := by omega
  have tm : ¬ nI (t + 1) = -1 := ud_nm1 (by omega)
  have t0 : ¬ nI (t + 1) = 0 := nI_ne0 (by omega) (by omega)
  have hm : ∀ i, i < sz → (nu i = -1 ↔ a_number i = -1) := fun i hi => by
    rw [hnu i hi]
    by_cases z : a_who i = nI x ∧ a_number i = 0
    · rw [if_pos z, z.2]
      exact ⟨fun q => absurd q tm, fun q => absurd q (by decide)⟩
    · rw [if_neg z]
  have h0 : ∀ i, i < sz → nu i = 0 → a_number i = 0 ∧ ¬ a_who i = nI x := fun i hi q => by
    rw [hnu i hi] at q
    by_cases z : a_who i = nI x ∧ a_number i = 0
    · rw [if_pos z] at q; exact absurd q t0
    · rw [if_neg z] at q
      exact ⟨q, fun w => z ⟨w, q⟩⟩
  have h0' : ∀ i, i < sz → a_number i = 0 → ¬ a_who i = nI x → nu i = 0 := fun i hi q w => by
    rw [hnu i hi, if_neg (fun z => w z.1)]; exact q
  have hs : ∀ i, i < sz → ¬ a_number i = 0 → nu i = a_number i := fun i hi q => by
    rw [hnu i hi, if_neg (fun z => q z.2)]
  have hlv : ∀ (r : Int32) n, n ≤ sz → ud_lv (ud_PL a_row a_number r) a_value n = ud_lv (ud_PL a_row nu r) a_value n := fun r n hn =>
    ud_lv_cg n (fun i hi => ud_PLc (hm i (by omega))) (fun _ _ _ => rfl)
  refine ⟨⟨rfl, rfl, a3, by omega, by omega, a6, a7⟩, hX, hW, ⟨?_, ?_, ?_, ?_, ?_, ?_, ?_, ?_⟩, ?_, z2, ?_, ?_, z5⟩
  · intro i hi
    obtain ⟨b1, b2, b3⟩ := y1 i hi
    refine ⟨b1, b2, ?_⟩
    rw [hnu i hi]
    by_cases z : a_who i = nI x ∧ a_number i = 0
    · rw [if_pos z]; exact Or.inr ⟨t + 1, by omega, rfl⟩
    · rw [if_neg z]
      rcases b3 with q | ⟨m, m1, m2⟩
      · exact Or.inl q
      · exact Or.inr ⟨m, by omega, m2⟩
  · intro i hi
    exact ⟨fun q => (y2 i hi).1 (h0 i hi q).1, fun q w => (y2 i hi).2 q ((hm i hi).mp w)⟩
  · intro i hi q1 q2
    have q3 : ¬ a_number i = -1 := fun w => q2 ((hm i hi).mpr w)
    have q4 : ¬ a_number i = 0 := fun w => (y2 i hi).1 w q1
    rw [hs i hi q4]
    exact y3 i hi q1 q3
  · intro i j hij hj hrow q1 q2
    have hi : i < sz := by omega
    have p1 : ¬ a_number i = -1 := fun w => q1 ((hm i hi).mpr w)
    have p2 : ¬ a_number j = -1 := fun w => q2 ((hm j hj).mpr w)
    by_cases z : a_number j = 0
    · by_cases y : a_who j = nI x
      · refine Or.inr ?_
        rw [hnu j hj, if_pos ⟨y, z⟩]
        by_cases w : a_number i = 0
        · obtain ⟨r, r1, r2⟩ := (y1 i hi).1
          have v1 := y7 i hi w r r1 r2
          have v2 := y7 j hj z r r1 (by rw [← hrow]; exact r2)
          rw [hnu i hi, if_pos ⟨by rw [← v1, v2]; exact y, w⟩]
          exact ⟨t0, Int32.le_refl _⟩
        · rw [hs i hi w]
          refine ⟨w, ?_⟩
          rcases (y1 i hi).2.2 with v | ⟨m, m1, m2⟩
          · exact absurd v p1
          · rw [m2]; exact nI_le (by omega) (by omega)
      · exact Or.inl (h0' j hj z y)
    · rcases y4 i j hij hj hrow p1 p2 with w | ⟨w1, w2⟩
      · exact absurd w z
      · refine Or.inr ?_
        rw [hs i hi w1, hs j hj z]
        exact ⟨w1, w2⟩
  · intro i hi q
    rw [y5 i hi (fun w => q ((hm i hi).mpr w)), hlv _ i (by omega)]
  · intro r hr
    rw [y6 r hr, hlv _ sz (Nat.le_refl _)]
  · intro i hi q r hr q2
    obtain ⟨b1, b2⟩ := h0 i hi q
    have e := y7 i hi b1 r hr q2
    rw [hlk r hr, if_neg (by rw [e]; exact b2)]
    exact e
  · intro r hr
    rw [hlk r hr]
    by_cases z : a_lock r = nI x
    · rw [if_pos z]; exact Or.inl rfl
    · rw [if_neg z]
      rcases y8 r hr with q | ⟨i, i1, i2, i3⟩
      · exact Or.inl q
      · refine Or.inr ⟨i, i1, h0' i i1 i2 ?_, i3⟩
        rw [← y7 i i1 i2 r hr i3]
        exact z
  · intro c uc
    obtain ⟨w1, w2, w3, w4, w5, w6⟩ := z1 c uc
    refine ⟨w1, w2, w3, w4, fun p' hp' q => ?_, fun q y hy q2 => ?_⟩
    · by_cases z : p' = p
      · rw [z, pk_us, hnu (g c) w1, if_pos ((hpl c uc).mp (by rw [← z]; exact q))]
      · rw [pk_un z, w5 p' hp' q, hnu (g c) w1, if_neg (fun v => z ?_)]
        have v2 := (hpl c uc).mpr v
        rw [q] at v2
        exact ud_inj (by omega) (by omega) v2
    · obtain ⟨b1, b2⟩ := h0 (g c) w1 q
      rw [pk_un (fun v => b2 (by rw [q2, v]))]
      exact w6 b1 y hy q2
  · intro y hy
    by_cases z : y = x
    · rw [z, pk_us]
      exact Or.inl ⟨rfl, fun i hi q => (h0 i hi q).2⟩
    · rw [pk_un z]
      rcases z3 y hy with ⟨b1, b2⟩ | ⟨p', b1, b2, b3, i, i1, i2, i3⟩
      · exact Or.inl ⟨b1, fun i hi q => b2 i hi (h0 i hi q).1⟩
      · refine Or.inr ⟨p', b1, b2, ?_, i, i1, h0' i i1 i2 (fun q => z ?_), i3⟩
        · have v : p' ≠ p := fun w => z (z4 y x hy hx (by rw [b2]; exact ud_nm1 (by omega)) (by rw [b2, ho, w]))
          rw [pk_un v]; exact b3
        · rw [i3] at q
          exact ud_inj (by omega) (by omega) q
  · intro y y' hy hy' q q2
    by_cases z : y = x
    · rw [z, pk_us] at q; exact absurd rfl q
    · by_cases z' : y' = x
      · rw [z', pk_us] at q2; exact absurd q2 q
      · rw [pk_un z] at q q2
        rw [pk_un z'] at q2
        exact z4 y y' hy hy' q q2
theorem ud_commit (h : ud_R k sz t U g f_used f_first f_last f_count f_taken f_now a_values a_newest a_forgotten a_rowOf a_oldValue a_placeOf a_olderOfRow a_olderOfAll a_newerOfAll a_changesOf a_numberOf a_openPlace f_size f_time a_row a_value a_before a_who a_number a_kept a_now a_lock a_gone) (hk : k + 4 ≤ 2048) (v : Int32) : wpX_commit (fun r u' => wpY_commit (fun r' v' => r' = r ∧ i_Rel (k + 4) u' v') (f_size, f_time, a_row, a_value, a_before, a_who, a_number, a_kept, a_now, a_lock, a_gone) v) (f_used, f_first, f_last, f_count, f_taken, f_now, a_values, a_newest, a_forgotten, a_rowOf, a_oldValue, a_placeOf, a_olderOfRow, a_olderOfAll, a_newerOfAll, a_changesOf, a_numberOf, a_openPlace) v := by
  have hup : i_Rel (k + 4) (f_used, f_first, f_last, f_count, f_taken, f_now, a_values, a_newest, a_forgotten, a_rowOf, a_oldValue, a_placeOf, a_olderOfRow, a_olderOfAll, a_newerOfAll, a_changesOf, a_numberOf, a_openPlace) (f_size, f_time, a_row, a_value, a_before, a_who, a_number, a_kept, a_now, a_lock, a_gone) := ⟨U, g, sz, t, ud_R_up (by omega) h⟩
  obtain ⟨a1, a2, a3, a4, a5, a6, a7⟩ := h.1
  have hz := ud_sz a4 hk
  unfold wpX_commit
  rcases ud_key4 v with a | ⟨x, hx, rfl⟩
  · exact ud_xses0 a (br_t rfl (ud_ychs0 a3 (by omega) a (br_t rfl ⟨rfl, hup⟩)))
  · refine ud_xses1 hx (br_f (by decide) ⟨vp_in_nI hx (by decide), ?_⟩)
    rw [ud_cl (by omega)]
    rcases h.2.2.2.2.2.2.1 x hx with ⟨b1, b2⟩ | ⟨p, b1, b2, b3, i, i1, i2, i3⟩
    · refine br_f (by rw [b1]; decide) ?_
      refine ud_ychs1 a3 (by omega) hx (br_t ?_ ⟨rfl, hup⟩)
      rw [ud_cn_none sz (fun i hi => ?_)]
      · rfl
      · unfold ud_OP
        by_cases y : a_number i = 0
        · rw [decide_eq_false (b2 i hi y), Bool.false_and]
        · rw [decide_eq_false y, Bool.and_false]
    · rw [b2]
      refine br_t (nI_pos' (by omega)) ?_
      intro nw enw
      refine ⟨vp_in_nI hx (by decide), vp_in_nI b1 (by decide), ?_⟩
      intro nof enof
      refine ⟨vp_in_nI hx (by decide), ?_⟩
      intro op eop
      have hpos : 0 < ud_cn (ud_OP a_who a_number (nI x)) sz := ud_cn_pos i1 (by
        unfold ud_OP
        rw [decide_eq_true i2, decide_eq_true i3]
        rfl)
      have hle := ud_cn_le (ud_OP a_who a_number (nI x)) sz
      refine ud_ychs1 a3 (by omega) hx (br_f (nI_ne0 hpos (by omega)) ?_)
      intro ti eti
      have e1 : nw = nI (t + 1) := by rw [enw, a1, nI_1]
      have e2 : ti = nI (t + 1) := by rw [eti, a2, nI_1]
      rw [ud_cl (by omega), e1] at enof
      rw [ud_narm] at eop
      subst e1 e2 enof eop
      refine ⟨sz + 1, ?_⟩
      refine ud_ycom23 a3 (by omega) (fun nu lk q1 q2 => ?_) (sz + 1) 0 (by omega) (by omega) a_number (fun j hj => by omega) (fun j _ => rfl)
      exact ⟨rfl, U, g, sz, t + 1, ud_R_commit h hk hx b1 b2 q1 q2⟩
end
end
section
theorem ud_cn_ex {f : Nat → Bool} {n : Nat} (h : ¬ ud_cn f n = 0) : ∃ i, i < n ∧ f i = true := by
  rcases Classical.em (∃ i, i < n ∧ f i = true) with q | q
  · exact q
  · exact absurd (ud_cn_none n (fun i hi => ud_nt (fun w => q ⟨i, hi, w⟩))) h
section
variable {f_used f_first f_last f_count f_taken f_now : Int32} {a_values a_newest a_forgotten a_rowOf a_oldValue a_placeOf a_olderOfRow a_olderOfAll a_newerOfAll a_changesOf a_numberOf a_openPlace : Nat → Int32} {f_size f_time : Int32} {a_row a_value a_before a_who a_number a_kept a_now a_lock a_gone : Nat → Int32} {k sz t : Nat} {U : Nat → Bool} {g : Nat → Nat}
/-- the oldest remembered change is forgotten on both sides -/
theorem ud_R_forget (h : ud_R k sz t U g f_used f_first f_last f_count f_taken f_now a_values a_newest a_forgotten a_rowOf a_oldValue a_placeOf a_olderOfRow a_olderOfAll a_newerOfAll a_changesOf a_numberOf a_openPlace f_size f_time a_row a_value a_before a_who a_number a_kept a_now a_lock a_gone) {e p r : Nat} (he : U e = true) (hmin : ∀ c, U c = true → g e ≤ g c) (hp : p < 32) (hpl : a_placeOf e = nI p) (hr : r < 8) (hro : a_rowOf e = nI r) (hn : ¬ a_number (g e) = 0)
    {us fi la co tk : Int32} {nw fo orr oa na ch go : Nat → Int32} (hX' : ud_XL (ud_rm U e) g us fi la co a_rowOf a_placeOf oa na ch) (hW' : ud_Rw (ud_rm U e) (ud_ps g) nw a_rowOf orr) (hfo : fo = (if a_numberOf p ≤ a_forgotten r then a_forgotten else upd a_forgotten r (a_numberOf p))) (htk : tk = (if ch p = 0 ∧ ¬ a_numberOf p = 0 then f_taken &&& (((1 : Int32) <<< (nI p &&& 31)) ^^^ (-1)) else f_taken)) (hgo : go = upd a_gone r (if a_number (g e) ≤ a_gone r then a_gone r else a_number (g e))) :
    ud_R k sz t (ud_rm U e) g us fi la co tk f_now a_values nw fo a_rowOf a_oldValue a_placeOf orr oa na ch a_numberOf a_openPlace f_size f_time a_row a_value a_before a_who a_number (upd a_kept (g e) 0) a_now a_lock go := by
  obtain ⟨⟨a1, a2, a3, a4, a5, a6, a7⟩, hX, hW, ⟨y1, y2, y3, y4, y5, y6, y7, y8⟩, z1, z2, z3, z4, z5⟩ := h
  obtain ⟨w1, w2, w3, w4, w5, w6⟩ := z1 e he
  have en := w5 p hp hpl
  have hrow : a_row (g e) = nI r := by rw [← w3]; exact hro
  have hge : ∀ r', r' < 8 → a_gone r' ≤ go r' := fun r' hr' => by
    rw [hgo]
    by_cases z : r' = r
    · rw [z, pk_us]
      by_cases y : a_number (g e) ≤ a_gone r
      · rw [if_pos y]; exact Int32.le_refl _
      · rw [if_neg y]; exact Int32.le_of_lt (Int32.not_le.mp y)
    · rw [pk_un z]; exact Int32.le_refl _
  have hk' : ∀ i, ¬ upd a_kept (g e) 0 i = 0 → i ≠ g e ∧ ¬ a_kept i = 0 := fun i q => by
    by_cases z : i = g e
    · rw [z, pk_us] at q; exact absurd rfl q
    · rw [pk_un z] at q; exact ⟨z, q⟩
  refine ⟨⟨a1, a2, a3, a4, a5, a6, ?_⟩, hX', hW', ⟨y1, ?_, ?_, y4, y5, y6, y7, y8⟩, ?_, ?_, z3, z4, ?_⟩
  · intro r' hr'
    rw [hfo, hgo, en]
    by_cases z : r' = r
    · rw [z, pk_us, a7 r hr]
      by_cases y : a_number (g e) ≤ a_gone r
      · rw [if_pos y, if_pos y]; exact a7 r hr
      · rw [if_neg y, if_neg y, pk_us]
    · rw [pk_un z]
      by_cases y : a_number (g e) ≤ a_forgotten r
      · rw [if_pos y]; exact a7 r' hr'
      · rw [if_neg y, pk_un z]; exact a7 r' hr'
  · intro i hi
    refine ⟨fun q => ?_, fun q => (y2 i hi).2 (hk' i q).2⟩
    rw [pk_un (fun z => hn (by rw [← z]; exact q))]
    exact (y2 i hi).1 q
  · intro i hi q1 q2
    by_cases z : i = g e
    · subst z
      refine ⟨fun r' hr' q3 => ?_, fun j hj q3 => ?_⟩
      · rw [hrow] at q3
        have e2 := ud_inj (by omega) (by omega) q3
        subst e2
        rw [hgo, pk_us]
        by_cases y : a_number (g e) ≤ a_gone r
        · rw [if_pos y]; exact y
        · rw [if_neg y]; exact Int32.le_refl _
      · obtain ⟨b1, b2⟩ := hk' j q3
        obtain ⟨c, c1, c2⟩ := z2 j hj b2
        have := hmin c c1
        omega
    · rw [pk_un z] at q1
      obtain ⟨b1, b2⟩ := y3 i hi q1 q2
      exact ⟨fun r' hr' q3 => Int32.le_trans (b1 r' hr' q3) (hge r' hr'), fun j hj q3 => b2 j hj (hk' j q3).2⟩
  · intro c uc
    obtain ⟨u1, u2⟩ := ud_rm_i.mp uc
    obtain ⟨v1, v2, v3⟩ := z1 c u1
    refine ⟨v1, ?_, v3⟩
    rw [pk_un (fun q => u2 (hX.2.2.1 c e u1 he q))]
    exact v2
  · intro i hi q
    obtain ⟨b1, b2⟩ := hk' i q
    obtain ⟨c, c1, c2⟩ := z2 i hi b2
    exact ⟨c, ud_rm_i.mpr ⟨c1, fun w => b1 (by rw [← c2, w])⟩, c2⟩
  · intro p' hp'
    have hch := hX'.2.2.2.2.2.1.2 p hp
    have hcl := ud_cn_le (fun c => ud_rm U e c && decide (a_placeOf c = nI p)) 24
    have hin : ∀ c, (ud_rm U e c && decide (a_placeOf c = nI p)) = true ↔ (ud_rm U e c = true ∧ a_placeOf c = nI p) := fun c => by
      rw [Bool.and_eq_true]
      exact ⟨fun ⟨a, b⟩ => ⟨a, of_decide_eq_true b⟩, fun ⟨a, b⟩ => ⟨a, decide_eq_true b⟩⟩
    have hoth : p' ≠ p → ((∃ c, U c = true ∧ a_placeOf c = nI p') ↔ ∃ c, ud_rm U e c = true ∧ a_placeOf c = nI p') := fun hne =>
      ⟨fun ⟨c, c1, c2⟩ => ⟨c, ud_rm_i.mpr ⟨c1, fun q => hne (by rw [q, hpl] at c2; exact (ud_inj (by omega) (by omega) c2).symm)⟩, c2⟩, fun ⟨c, c1, c2⟩ => ⟨c, (ud_rm_i.mp c1).1, c2⟩⟩
    by_cases z : ch p = 0
    · rw [htk, if_pos ⟨z, by rw [en]; exact hn⟩, ud_clr f_taken (by omega) (by omega)]
      by_cases y : p' = p
      · rw [y, decide_eq_true rfl, Bool.not_true, Bool.and_false]
        refine ⟨fun q => absurd q (by decide), fun ⟨c, c1, c2⟩ => ?_⟩
        exfalso
        have q := ud_cn_pos (f := fun c => ud_rm U e c && decide (a_placeOf c = nI p)) (hX'.1 c c1) ((hin c).mpr ⟨c1, c2⟩)
        rw [hch] at z
        exact nI_ne0 q (by omega) z
      · rw [decide_eq_false y, Bool.not_false, Bool.and_true, z5 p' hp']
        exact hoth y
    · rw [htk, if_neg (fun q => z q.1)]
      rw [z5 p' hp']
      by_cases y : p' = p
      · rw [y]
        refine ⟨fun _ => ?_, fun _ => ⟨e, he, hpl⟩⟩
        obtain ⟨c, c1, c2⟩ := ud_cn_ex (f := fun c => ud_rm U e c && decide (a_placeOf c = nI p)) (n := 24) (fun q => z (by rw [hch, q]; rfl))
        exact ⟨c, (hin c).mp c2⟩
      · exact hoth y
/-- a new change on both sides -/
theorem ud_R_app (h : ud_R k sz t U g f_used f_first f_last f_count f_taken f_now a_values a_newest a_forgotten a_rowOf a_oldValue a_placeOf a_olderOfRow a_olderOfAll a_newerOfAll a_changesOf a_numberOf a_openPlace f_size f_time a_row a_value a_before a_who a_number a_kept a_now a_lock a_gone) {e x r p : Nat} {v : Int32} (h24 : e < 24) (he : U e = false) (hx : x < 4) (hr : r < 8) (hp : p < 32) (hl : a_lock r = -4 ∨ a_lock r = nI x)
    {us fi la co tk : Int32} {nw orr oa na ch nof op : Nat → Int32}
    (q1 : nof p = 0 ∧ ∀ p', p' ≠ p → nof p' = a_numberOf p') (q2 : op x = nI p ∧ ∀ y, y ≠ x → op y = a_openPlace y)
    (q3 : ∀ c, U c = true → a_placeOf c = nI p → a_number (g c) = 0)
    (q4 : ∀ c, U c = true → a_number (g c) = 0 → a_who (g c) = nI x → a_placeOf c = nI p)
    (q5 : ∀ y, y < 4 → y ≠ x → ¬ a_openPlace y = nI p)
    (q6 : bt tk p = true ∧ ∀ p', p' < 32 → p' ≠ p → bt tk p' = bt f_taken p')
    (hX' : ud_XL (ud_ad U e) (ud_gs g e sz) us fi la co (upd a_rowOf e (nI r)) (upd a_placeOf e (nI p)) oa na ch) (hW' : ud_Rw (ud_ad U e) (ud_ps (ud_gs g e sz)) nw (upd a_rowOf e (nI r)) orr) :
    ud_R (k + 4) (sz + 1) t (ud_ad U e) (ud_gs g e sz) us fi la co tk f_now (upd a_values r v) nw a_forgotten (upd a_rowOf e (nI r)) (upd a_oldValue e (a_values r)) (upd a_placeOf e (nI p)) orr oa na ch nof op (nI (sz + 1)) f_time (upd a_row sz (nI r)) (upd a_value sz v) (upd a_before sz (a_now r)) (upd a_who sz (nI x)) (upd a_number sz 0) (upd a_kept sz 1) (upd a_now r v) (upd a_lock r (nI x)) a_gone := by
  obtain ⟨⟨a1, a2, a3, a4, a5, a6, a7⟩, hX, hW, ⟨y1, y2, y3, y4, y5, y6, y7, y8⟩, z1, z2, z3, z4, z5⟩ := h
  have hne : ∀ c, U c = true → c ≠ e := fun c uc q => by rw [q, he] at uc; exact absurd uc (by decide)
  have ge : ud_gs g e sz e = sz := if_pos rfl
  have gq : ∀ c, c ≠ e → ud_gs g e sz c = g c := fun c hc => if_neg hc
  have hUc : ∀ c, c ≠ e → ud_ad U e c = true → U c = true := fun c hc q => by
    rcases ud_ad_i.mp q with w | w
    · exact w
    · exact absurd w hc
  have i1 : ¬ (1 : Int32) = 0 := by decide
  have m1 : ¬ (0 : Int32) = -1 := by decide
  have hlt : ∀ i, i < sz + 1 → i < sz ∨ i = sz := fun i hi => by omega
  have hns : ∀ i, i < sz → i ≠ sz := fun i hi => by omega
  have hlv : ∀ (r' : Int32) n, n ≤ sz → ud_lv (ud_PL a_row a_number r') a_value n = ud_lv (ud_PL (upd a_row sz (nI r)) (upd a_number sz 0) r') (upd a_value sz v) n := fun r' n hn =>
    ud_lv_cg n (fun i hi => by unfold ud_PL; rw [pk_un (hns i (by omega)), pk_un (hns i (by omega))]) (fun i hi _ => by rw [pk_un (hns i (by omega))])
  refine ⟨⟨a1, a2, rfl, by omega, by omega, ?_, a7⟩, hX', hW', ⟨?_, ?_, ?_, ?_, ?_, ?_, ?_, ?_⟩, ?_, ?_, ?_, ?_, ?_⟩
  · intro r' hr'
    by_cases z : r' = r
    · rw [z, pk_us, pk_us]
    · rw [pk_un z, pk_un z]; exact a6 r' hr'
  · intro i hi
    rcases hlt i hi with w | w
    · rw [pk_un (hns i w), pk_un (hns i w), pk_un (hns i w)]; exact y1 i w
    · rw [w, pk_us, pk_us, pk_us]
      exact ⟨⟨r, hr, rfl⟩, ⟨x, hx, rfl⟩, Or.inr ⟨0, by omega, rfl⟩⟩
  · intro i hi
    rcases hlt i hi with w | w
    · rw [pk_un (hns i w), pk_un (hns i w)]; exact y2 i w
    · rw [w, pk_us, pk_us]
      exact ⟨fun _ => i1, fun _ => m1⟩
  · intro i hi b1 b2
    rcases hlt i hi with w | w
    · rw [pk_un (hns i w)] at b1 b2
      obtain ⟨d1, d2⟩ := y3 i w b1 b2
      refine ⟨fun r' hr' b3 => ?_, fun j hj b3 => ?_⟩
      · rw [pk_un (hns i w)] at b3
        rw [pk_un (hns i w)]
        exact d1 r' hr' b3
      · rcases hlt j hj with u | u
        · rw [pk_un (hns j u)] at b3
          exact d2 j u b3
        · omega
    · rw [w, pk_us] at b1
      exact absurd b1 i1
  · intro i j hij hj b1 b2 b3
    rcases hlt j hj with w | w
    · rw [pk_un (hns j w)] at b1 b3
      rw [pk_un (hns i (by omega))] at b1 b2
      rw [pk_un (hns j w), pk_un (hns i (by omega))]
      exact y4 i j hij w b1 b2 b3
    · rw [w, pk_us]; exact Or.inl rfl
  · intro i hi b1
    rcases hlt i hi with w | w
    · rw [pk_un (hns i w)] at b1
      rw [pk_un (hns i w), pk_un (hns i w), y5 i w b1, hlv _ i (by omega)]
    · rw [w, pk_us, pk_us, y6 r hr, hlv _ sz (Nat.le_refl _)]
  · intro r' hr'
    by_cases z : r' = r
    · rw [z, pk_us]
      have q : ud_PL (upd a_row sz (nI r)) (upd a_number sz 0) (nI r) sz = true := ud_PLt pk_us (by rw [pk_us]; exact m1)
      rw [ud_lv_t q, pk_us]
    · rw [pk_un z]
      have q : ud_PL (upd a_row sz (nI r)) (upd a_number sz 0) (nI r') sz = false := by
        apply ud_nt
        intro w
        have w2 := (ud_PLi w).1
        rw [pk_us] at w2
        exact z (ud_inj (by omega) (by omega) w2).symm
      rw [ud_lv_f q, y6 r' hr', hlv _ sz (Nat.le_refl _)]
  · intro i hi b1 r' hr' b2
    rcases hlt i hi with w | w
    · rw [pk_un (hns i w)] at b1 b2
      rw [pk_un (hns i w)]
      have b3 := y7 i w b1 r' hr' b2
      by_cases z : r' = r
      · subst z
        rw [pk_us]
        rcases hl with u | u
        · obtain ⟨y, u1, u2⟩ := (y1 i w).2.1
          rw [u, u2] at b3
          exact absurd b3.symm (ud_nm4 (by omega))
        · rw [← b3, u]
      · rw [pk_un z]; exact b3
    · rw [w, pk_us] at b2
      have z := ud_inj (by omega) (by omega) b2
      rw [← z, pk_us, w, pk_us]
  · intro r' hr'
    by_cases z : r' = r
    · refine Or.inr ⟨sz, by omega, pk_us, ?_⟩
      rw [pk_us, z]
    · rw [pk_un z]
      rcases y8 r' hr' with u | ⟨i, u1, u2, u3⟩
      · exact Or.inl u
      · exact Or.inr ⟨i, by omega, by rw [pk_un (hns i u1)]; exact u2, by rw [pk_un (hns i u1)]; exact u3⟩
  · intro c uc
    by_cases z : c = e
    · rw [z, ge, pk_us, pk_us, pk_us, pk_us, pk_us, pk_us, pk_us, pk_us]
      refine ⟨by omega, i1, rfl, a6 r hr, fun p' hp' b => ?_, fun _ y hy b => ?_⟩
      · rw [← ud_inj (by omega) (by omega) b]; exact q1.1
      · rw [← ud_inj (by omega) (by omega) b]; exact q2.1.symm
    · have u := hUc c z uc
      obtain ⟨w1, w2, w3, w4, w5, w6⟩ := z1 c u
      rw [gq c z, pk_un z, pk_un z, pk_un z, pk_un (hns _ w1), pk_un (hns _ w1), pk_un (hns _ w1), pk_un (hns _ w1), pk_un (hns _ w1)]
      refine ⟨by omega, w2, w3, w4, fun p' hp' b => ?_, fun b y hy b2 => ?_⟩
      · by_cases y : p' = p
        · rw [y, q1.1]
          rw [y] at b
          exact (q3 c u b).symm
        · rw [q1.2 p' y]; exact w5 p' hp' b
      · by_cases w : y = x
        · rw [w, q2.1]
          exact q4 c u b (by rw [b2, w])
        · rw [q2.2 y w]; exact w6 b y hy b2
  · intro i hi b
    rcases hlt i hi with w | w
    · rw [pk_un (hns i w)] at b
      obtain ⟨c, c1, c2⟩ := z2 i w b
      exact ⟨c, ud_ad_i.mpr (Or.inl c1), by rw [gq c (hne c c1)]; exact c2⟩
    · exact ⟨e, ud_ad_i.mpr (Or.inr rfl), by rw [ge, w]⟩
  · intro y hy
    by_cases z : y = x
    · refine Or.inr ⟨p, hp, by rw [z]; exact q2.1, q1.1, sz, by omega, pk_us, by rw [pk_us, z]⟩
    · rw [q2.2 y z]
      rcases z3 y hy with ⟨b1, b2⟩ | ⟨p', b1, b2, b3, i, i1, i2, i3⟩
      · refine Or.inl ⟨b1, fun i hi b3 => ?_⟩
        rcases hlt i hi with w | w
        · rw [pk_un (hns i w)] at b3
          rw [pk_un (hns i w)]
          exact b2 i w b3
        · rw [w, pk_us]
          exact fun u => z (ud_inj (by omega) (by omega) u).symm
      · refine Or.inr ⟨p', b1, b2, ?_, i, by omega, by rw [pk_un (hns i i1)]; exact i2, by rw [pk_un (hns i i1)]; exact i3⟩
        rw [q1.2 p' (fun w => q5 y hy z (by rw [b2, w]))]
        exact b3
  · intro y y' hy hy' b1 b2
    by_cases z : y = x
    · by_cases z' : y' = x
      · rw [z, z']
      · rw [z, q2.1, q2.2 y' z'] at b2
        exact absurd b2.symm (q5 y' hy' z')
    · by_cases z' : y' = x
      · rw [z', q2.1, q2.2 y z] at b2
        exact absurd b2 (q5 y hy z)
      · rw [q2.2 y z] at b1 b2
        rw [q2.2 y' z'] at b2
        exact z4 y y' hy hy' b1 b2
  · intro p' hp'
    by_cases z : p' = p
    · rw [z]
      exact ⟨fun _ => ⟨e, ud_ad_i.mpr (Or.inr rfl), pk_us⟩, fun _ => q6.1⟩
    · rw [q6.2 p' hp' z, z5 p' hp']
      constructor
      · intro ⟨c, c1, c2⟩
        exact ⟨c, ud_ad_i.mpr (Or.inl c1), by rw [pk_un (hne c c1)]; exact c2⟩
      · intro ⟨c, c1, c2⟩
        by_cases w : c = e
        · rw [w, pk_us] at c2
          exact absurd (ud_inj (by omega) (by omega) c2).symm z
        · rw [pk_un w] at c2
          exact ⟨c, hUc c w c1, c2⟩
end
end
section
section
variable {f_used f_first f_last f_count f_taken f_now : Int32} {a_values a_newest a_forgotten a_rowOf a_oldValue a_placeOf a_olderOfRow a_olderOfAll a_newerOfAll a_changesOf a_numberOf a_openPlace : Nat → Int32} {f_size f_time : Int32} {a_row a_value a_before a_who a_number a_kept a_now a_lock a_gone : Nat → Int32} {k sz t : Nat} {U : Nat → Bool} {g : Nat → Nat}
theorem ud_y152 {post : Int32 → SY → Prop} {x r : Nat} {v : Int32} (hs : f_size = nI sz) (hz : sz < 512) (hr : r < 8) (K : post 0 (nI (sz + 1), f_time, upd a_row sz (nI r), upd a_value sz v, upd a_before sz (a_now r), upd a_who sz (nI x), upd a_number sz 0, upd a_kept sz 1, upd a_now r v, upd a_lock r (nI x), a_gone)) : wY_change_152 post (nI x) (nI r) v f_size f_time a_row a_value a_before a_who a_number a_kept a_now a_lock a_gone := by
  subst hs
  have i5 : vp_in (nI sz) 512 := vp_in_nI hz (by decide)
  have i8 : vp_in (nI r) 8 := vp_in_nI hr (by decide)
  have cs : (nI sz).toNatClampNeg = sz := ud_cl (by omega)
  have cr : (nI r).toNatClampNeg = r := ud_cl (by omega)
  unfold wY_change_152
  rw [cs, cr]
  refine ⟨i5, ?_⟩
  intro b1 e1
  refine ⟨i5, ?_⟩
  intro b2 e2
  refine ⟨i8, i5, ?_⟩
  intro b3 e3
  refine ⟨i5, ?_⟩
  intro b4 e4
  refine ⟨i5, ?_⟩
  intro b5 e5
  refine ⟨i5, ?_⟩
  intro b6 e6 s7 e7
  refine ⟨i8, ?_⟩
  intro b8 e8
  refine ⟨i8, ?_⟩
  intro b9 e9
  rw [ud_bool1] at e6
  rw [nI_1] at e7
  subst e1 e2 e3 e4 e5 e6 e7 e8 e9
  exact K
/-- the component's way behind the check of room -/
theorem ud_x97 {post : Int32 → SX → Prop} (h : ud_R k sz t U g f_used f_first f_last f_count f_taken f_now a_values a_newest a_forgotten a_rowOf a_oldValue a_placeOf a_olderOfRow a_olderOfAll a_newerOfAll a_changesOf a_numberOf a_openPlace f_size f_time a_row a_value a_before a_who a_number a_kept a_now a_lock a_gone) {x r p : Nat} {v tk : Int32} {ch nof op : Nat → Int32} (hx : x < 4) (hr : r < 8) (hp : p < 32) (hcn : ud_cn U 24 < 24) (hl : a_lock r = -4 ∨ a_lock r = nI x)
    (q0 : ∀ p', p' < 32 → ch p' = a_changesOf p')
    (q1 : nof p = 0 ∧ ∀ p', p' ≠ p → nof p' = a_numberOf p') (q2 : op x = nI p ∧ ∀ y, y ≠ x → op y = a_openPlace y)
    (q3 : ∀ c, U c = true → a_placeOf c = nI p → a_number (g c) = 0)
    (q4 : ∀ c, U c = true → a_number (g c) = 0 → a_who (g c) = nI x → a_placeOf c = nI p)
    (q5 : ∀ y, y < 4 → y ≠ x → ¬ a_openPlace y = nI p)
    (q6 : bt tk p = true ∧ ∀ p', p' < 32 → p' ≠ p → bt tk p' = bt f_taken p')
    (K : ∀ u' : SX, i_Rel (k + 4) u' (nI (sz + 1), f_time, upd a_row sz (nI r), upd a_value sz v, upd a_before sz (a_now r), upd a_who sz (nI x), upd a_number sz 0, upd a_kept sz 1, upd a_now r v, upd a_lock r (nI x), a_gone) → post 0 u') :
    wX_change_97 post (nI x) (nI r) v f_used f_first f_last f_count tk f_now a_values a_newest a_forgotten a_rowOf a_oldValue a_placeOf a_olderOfRow a_olderOfAll a_newerOfAll ch nof op := by
  have hX0 : ud_XL U g f_used f_first f_last f_count a_rowOf a_placeOf a_olderOfAll a_newerOfAll ch := by
    obtain ⟨b1, b2, b3, b4, b5, b6, b7⟩ := h.2.1
    exact ⟨b1, b2, b3, b4, b5, ⟨b6.1, fun p' hp' => by rw [q0 p' hp']; exact b6.2 p' hp'⟩, b7⟩
  unfold wX_change_97
  refine ⟨vp_in_nI hx (by decide), ?_⟩
  rw [ud_cl (n := x) (by omega), q2.1]
  refine ud_note (t := sz) hX0 h.2.2.1 hcn hp hr (fun c uc => (h.2.2.2.2.1 c uc).1) (fun e us fi la co nw orr oa na ch' h24 he hX' hW' => ?_)
  refine ⟨vp_in_nI hr (by decide), ?_⟩
  intro va eva
  rw [ud_cl (by omega)] at eva
  subst eva
  exact K _ ⟨_, _, sz + 1, t, ud_R_app h h24 he hx hr hp hl q1 q2 q3 q4 q5 q6 hX' hW'⟩
theorem ud_x83 {post : Int32 → SX → Prop} (h : ud_R k sz t U g f_used f_first f_last f_count f_taken f_now a_values a_newest a_forgotten a_rowOf a_oldValue a_placeOf a_olderOfRow a_olderOfAll a_newerOfAll a_changesOf a_numberOf a_openPlace f_size f_time a_row a_value a_before a_who a_number a_kept a_now a_lock a_gone) {x r : Nat} {v : Int32} (hx : x < 4) (hr : r < 8) (hcn : ud_cn U 24 < 24) (hl : a_lock r = -4 ∨ a_lock r = nI x)
    (K : ∀ u' : SX, i_Rel (k + 4) u' (nI (sz + 1), f_time, upd a_row sz (nI r), upd a_value sz v, upd a_before sz (a_now r), upd a_who sz (nI x), upd a_number sz 0, upd a_kept sz 1, upd a_now r v, upd a_lock r (nI x), a_gone) → post 0 u') :
    wX_change_83 post (nI x) (nI r) v f_used f_first f_last f_count f_taken f_now a_values a_newest a_forgotten a_rowOf a_oldValue a_placeOf a_olderOfRow a_olderOfAll a_newerOfAll a_changesOf a_numberOf a_openPlace := by
  have hpl := fun p c hp ho uc => ud_place h (x := x) (p := p) (c := c) hx hp ho uc
  obtain ⟨_, hX, hW, ⟨y1, y2, y3, y4, y5, y6, y7, y8⟩, z1, z2, z3, z4, z5⟩ := id h
  unfold wX_change_83
  refine ⟨vp_in_nI hx (by decide), ?_⟩
  rw [ud_cl (by omega)]
  rcases z3 x hx with ⟨b1, b2⟩ | ⟨p, b1, b2, b3, i, i1, i2, i3⟩
  · refine br_f (by rw [b1]; decide) ?_
    have hf : ∃ p, p < 32 ∧ bt f_taken p = false := by
      rcases Classical.em (∃ p, p < 32 ∧ bt f_taken p = false) with q | q
      · exact q
      · exfalso
        have hk : ∀ p, ∃ c, p < 32 → U c = true ∧ a_placeOf c = nI p := by
          intro p
          by_cases w : p < 32
          · obtain ⟨c, hc⟩ := (z5 p w).mp (ud_nf (fun w2 => q ⟨p, w, w2⟩))
            exact ⟨c, fun _ => hc⟩
          · exact ⟨0, fun w2 => absurd w2 w⟩
        obtain ⟨f, hf⟩ := Classical.skolem.mp hk
        have q2 := ud_cn_inj (A := fun _ => true) (h := f) (m := 24) 32 U (fun p hp _ => ⟨hX.1 _ (hf p hp).1, (hf p hp).1⟩) (fun p p' hp hp' _ _ e => by
          have e1 := (hf p hp).2
          have e2 := (hf p' hp').2
          rw [e, e2] at e1
          exact (ud_inj (by omega) (by omega) e1).symm)
        rw [ud_cn_all 32 (fun _ _ => rfl)] at q2
        omega
    refine ud_open hx hf (fun p hp hb => ?_)
    have hnt : ∀ c, U c = true → ¬ a_placeOf c = nI p := fun c uc q => by
      rw [(z5 p hp).mpr ⟨c, uc, q⟩] at hb
      exact absurd hb (by decide)
    refine ud_x97 h hx hr hp hcn hl (fun p' hp' => ?_) ⟨pk_us, fun p' hp' => pk_un hp'⟩ ⟨pk_us, fun y hy => pk_un hy⟩ (fun c uc q => absurd q (hnt c uc)) (fun c uc q q2 => ?_) (fun y hy hyx q => ?_) ⟨?_, fun p' hp' hne => ?_⟩ K
    · by_cases w : p' = p
      · rw [w, pk_us, hX.2.2.2.2.2.1.2 p hp, ud_cn_none 24 (fun c _ => ?_)]
        · rfl
        · by_cases u : U c = true
          · rw [decide_eq_false (hnt c u), Bool.and_false]
          · rw [ud_nt u, Bool.false_and]
      · rw [pk_un w]
    · exact absurd q2 (b2 (g c) (z1 c uc).1 q)
    · rcases z3 y hy with ⟨d1, d2⟩ | ⟨p', d1, d2, d3, i, i1, i2, i3⟩
      · rw [d1] at q; exact absurd q.symm (ud_nm1 (by omega))
      · obtain ⟨c, c1, c2⟩ := z2 i i1 ((y2 i i1).1 i2)
        refine hnt c c1 ?_
        rw [(z1 c c1).2.2.2.2.2 (by rw [c2]; exact i2) y hy (by rw [c2]; exact i3)]
        exact q
    · rw [ud_set f_taken (by omega) (by omega), decide_eq_true rfl, Bool.or_true]
    · rw [ud_set f_taken (by omega) (by omega), decide_eq_false hne, Bool.or_false]
  · refine br_t (by rw [b2]; exact nI_pos' (by omega)) ?_
    refine ud_x97 h hx hr b1 hcn hl (fun _ _ => rfl) ⟨b3, fun _ _ => rfl⟩ ⟨b2, fun _ _ => rfl⟩ (fun c uc q => ((hpl p c b1 b2 uc).mp q).2) (fun c uc q q2 => (hpl p c b1 b2 uc).mpr ⟨q2, q⟩) (fun y hy hyx q => hyx ?_) ⟨?_, fun _ _ _ => rfl⟩ K
    · exact (z4 x y hx hy (by rw [b2]; exact ud_nm1 (by omega)) (by rw [b2, q])).symm
    · obtain ⟨c, c1, c2⟩ := z2 i i1 ((y2 i i1).1 i2)
      exact (z5 p b1).mpr ⟨c, c1, (hpl p c b1 b2 c1).mpr (by rw [c2]; exact ⟨i3, i2⟩)⟩
/-- both sides behind the check of the lock -/
theorem ud_c42 (h : ud_R k sz t U g f_used f_first f_last f_count f_taken f_now a_values a_newest a_forgotten a_rowOf a_oldValue a_placeOf a_olderOfRow a_olderOfAll a_newerOfAll a_changesOf a_numberOf a_openPlace f_size f_time a_row a_value a_before a_who a_number a_kept a_now a_lock a_gone) (hk : k + 4 ≤ 2048) {x r : Nat} {v : Int32} (hx : x < 4) (hr : r < 8) (hl : a_lock r = -4 ∨ a_lock r = nI x) {P : (Int32 → SY → Prop) → Prop} (HY : ∀ post : Int32 → SY → Prop, wY_change_42 post (nI x) (nI r) v f_size f_time a_row a_value a_before a_who a_number a_kept a_now a_lock a_gone → P post) :
    wX_change_42 (fun a u' => P (fun a' v' => a' = a ∧ i_Rel (k + 4) u' v')) (nI x) (nI r) v f_used f_first f_last f_count f_taken f_now a_values a_newest a_forgotten a_rowOf a_oldValue a_placeOf a_olderOfRow a_olderOfAll a_newerOfAll a_changesOf a_numberOf a_openPlace := by
  have hup : i_Rel (k + 4) (f_used, f_first, f_last, f_count, f_taken, f_now, a_values, a_newest, a_forgotten, a_rowOf, a_oldValue, a_placeOf, a_olderOfRow, a_olderOfAll, a_newerOfAll, a_changesOf, a_numberOf, a_openPlace) (f_size, f_time, a_row, a_value, a_before, a_who, a_number, a_kept, a_now, a_lock, a_gone) := ⟨U, g, sz, t, ud_R_up (by omega) h⟩
  have hK := ud_cntK h
  obtain ⟨⟨a1, a2, a3, a4, a5, a6, a7⟩, hX, hW, hY, hZ⟩ := id h
  have hz := ud_sz a4 hk
  have hc : f_count = nI (ud_cn U 24) := hX.2.2.2.2.2.1.1
  have hc24 := ud_cn_le U 24
  have HR : ∀ post : Int32 → SY → Prop, ((24 ≤ nI (ud_cn U 24) → wpY_oldestKept (fun r_42 => wY_change_59 post (nI x) (nI r) v r_42 f_size f_time a_row a_value a_before a_who a_number a_kept a_now a_lock a_gone) (f_size, f_time, a_row, a_value, a_before, a_who, a_number, a_kept, a_now, a_lock, a_gone)) ∧ (¬ 24 ≤ nI (ud_cn U 24) → wY_change_59 post (nI x) (nI r) v (-1) f_size f_time a_row a_value a_before a_who a_number a_kept a_now a_lock a_gone)) → P post := fun post q => by
    refine HY post ?_
    unfold wY_change_42
    refine ud_yrem a3 (by omega) ?_
    rw [← hK]
    exact q
  have hsz : ¬ 512 ≤ f_size := by rw [a3]; exact nI_ge (b := 512) hz (by decide)
  unfold wX_change_42
  by_cases z : ud_cn U 24 = 24
  · have hc' : f_count = 24 := by rw [hc, z]; rfl
    obtain ⟨e0, e0lt, e0u⟩ := ud_cn_ex (f := U) (n := 24) (by omega)
    obtain ⟨e, e1, e2, e3, e4⟩ : ∃ e, e < 24 ∧ f_first = nI e ∧ U e = true ∧ ∀ c, U c = true → g e ≤ g c := by
      rcases hX.2.2.2.2.2.2.2.1 with ⟨_, q⟩ | ⟨e, e1, e2, e3, e4⟩
      · exact absurd e0u (q e0)
      · refine ⟨e, e1, e2, e3, fun c uc => ?_⟩
        have w : - ud_ps g c ≤ - ud_ps g e := e4 c uc
        have w2 : (g e : Int) ≤ (g c : Int) := by
          have w3 : ud_ps g e ≤ ud_ps g c := by omega
          exact w3
        exact Int.ofNat_le.mp w2
    obtain ⟨p, p1, p2⟩ := hX.2.2.2.2.1 e e3
    obtain ⟨r0, r1, r2⟩ := hX.2.2.2.1 e e3
    obtain ⟨w1, w2, w3, w4, w5, w6⟩ := hZ.1 e e3
    have en := w5 p p1 p2
    have HO : ∀ post : Int32 → SY → Prop, wY_change_59 post (nI x) (nI r) v (nI (g e)) f_size f_time a_row a_value a_before a_who a_number a_kept a_now a_lock a_gone → P post := fun post q => by
      refine HR post (br_t (by rw [z]; exact Int32.le_refl _) ?_)
      refine ud_yold a3 (by omega) ⟨g e, w1, w2⟩ (fun i i1 i2 i3 => ?_)
      have ei : i = g e := by
        obtain ⟨c, c1, c2⟩ := hZ.2.1 i i1 i2
        have v1 := e4 c c1
        have v2 : ¬ g e < i := fun v3 => w2 (i3 (g e) v3)
        omega
      rw [ei]
      exact q
    refine br_t hc' ⟨by rw [e2]; exact vp_in_nI e1 (by decide), ?_⟩
    rw [e2, ud_cl (by omega), p2, ← e2]
    refine ud_isOpen p1 (fun q => ?_) (fun q => ?_)
    · refine br_f (by decide) (HO _ ?_)
      unfold wY_change_59
      refine br_f hsz (br_f (nI_pos (by omega)) ⟨vp_in_nI (by omega) (by decide), ?_⟩)
      rw [ud_cl (by omega)]
      exact br_t (by rw [← en]; exact q) ⟨rfl, hup⟩
    · refine br_t rfl ?_
      unfold wX_change_70
      refine br_t hc' ?_
      have hn : ¬ a_number (g e) = 0 := by rw [← en]; exact q
      refine ud_forget hX hW e3 e4 e2 p1 p2 r1 r2 (fun us fi la co tk nw fo orr oa na ch hX' hW' hfo htk => ?_)
      have hR := ud_R_forget h e3 e4 p1 p2 r1 r2 hn hX' hW' hfo htk rfl
      have hcn : ud_cn (ud_rm U e) 24 < 24 := by
        have q2 := ud_cn_add (f := ud_rm U e) (g := U) (e := e) (by unfold ud_rm; rw [decide_eq_true rfl, Bool.not_true, Bool.and_false]) e3 (fun j hj => by unfold ud_rm; rw [decide_eq_false hj, Bool.not_false, Bool.and_true]) 24 e1
        omega
      refine ud_x83 hR hx hr hcn hl (fun u' hu' => HO _ ?_)
      unfold wY_change_59
      refine br_f hsz (br_f (nI_pos (by omega)) ⟨vp_in_nI (by omega) (by decide), ?_⟩)
      rw [ud_cl (by omega)]
      refine br_f hn ?_
      unfold wY_change_89
      refine br_f (nI_pos (by omega)) ⟨vp_in_nI (by omega) (by decide), ?_⟩
      rw [ud_cl (by omega)]
      intro ke eke
      rw [ud_bool0] at eke
      subst eke
      refine ⟨vp_in_nI (by omega) (by decide), ?_⟩
      rw [← w3, r2]
      intro x5 ex5
      subst ex5
      refine ⟨vp_in_nI (by omega) (by decide), vp_in_nI r1 (by decide), ?_⟩
      rw [ud_cl (by omega)]
      by_cases y : a_number (g e) ≤ a_gone r0
      · refine br_t y ⟨vp_in_nI r1 (by decide), ?_⟩
        unfold wY_change_151
        refine ⟨vp_in_nI r1 (by decide), ?_⟩
        intro go ego
        rw [ud_cl (by omega)] at ego
        subst ego
        rw [if_pos y] at hu'
        exact ud_y152 a3 hz hr ⟨rfl, hu'⟩
      · refine br_f y ⟨vp_in_nI (by omega) (by decide), ?_⟩
        unfold wY_change_151
        refine ⟨vp_in_nI r1 (by decide), ?_⟩
        intro go ego
        rw [ud_cl (by omega)] at ego
        subst ego
        rw [if_neg y] at hu'
        exact ud_y152 a3 hz hr ⟨rfl, hu'⟩
  · have hc' : ¬ f_count = 24 := by
      rw [hc]
      exact fun q => z (ud_inj (b := 24) (by omega) (by omega) q)
    refine br_f hc' ?_
    unfold wX_change_70
    refine br_f hc' ?_
    refine ud_x83 h hx hr (by omega) hl (fun u' hu' => HR _ (br_f (nI_ge (b := 24) (by omega) (by decide)) ?_))
    unfold wY_change_59
    refine br_f hsz (br_t ud_m1neg ?_)
    unfold wY_change_89
    refine br_t ud_m1neg ?_
    exact ud_y152 a3 hz hr ⟨rfl, hu'⟩
theorem ud_change (h : ud_R k sz t U g f_used f_first f_last f_count f_taken f_now a_values a_newest a_forgotten a_rowOf a_oldValue a_placeOf a_olderOfRow a_olderOfAll a_newerOfAll a_changesOf a_numberOf a_openPlace f_size f_time a_row a_value a_before a_who a_number a_kept a_now a_lock a_gone) (hk : k + 4 ≤ 2048) (v1 v2 v3 : Int32) : wpX_change (fun r u' => wpY_change (fun r' v' => r' = r ∧ i_Rel (k + 4) u' v') (f_size, f_time, a_row, a_value, a_before, a_who, a_number, a_kept, a_now, a_lock, a_gone) v1 v2 v3) (f_used, f_first, f_last, f_count, f_taken, f_now, a_values, a_newest, a_forgotten, a_rowOf, a_oldValue, a_placeOf, a_olderOfRow, a_olderOfAll, a_newerOfAll, a_changesOf, a_numberOf, a_openPlace) v1 v2 v3 := by
  have hup : i_Rel (k + 4) (f_used, f_first, f_last, f_count, f_taken, f_now, a_values, a_newest, a_forgotten, a_rowOf, a_oldValue, a_placeOf, a_olderOfRow, a_olderOfAll, a_newerOfAll, a_changesOf, a_numberOf, a_openPlace) (f_size, f_time, a_row, a_value, a_before, a_who, a_number, a_kept, a_now, a_lock, a_gone) := ⟨U, g, sz, t, ud_R_up (by omega) h⟩
  unfold wpX_change
  rcases ud_key4 v1 with a | ⟨x, hx, rfl⟩
  · refine ud_xses0 a (br_t rfl ?_)
    unfold wpY_change
    exact ud_yses0 a (br_t rfl ⟨rfl, hup⟩)
  rcases ud_key8 v2 with a | ⟨r, hr, rfl⟩
  · refine ud_xses1 hx (br_f (by decide) (ud_xrow0 a (br_t rfl ?_)))
    unfold wpY_change
    exact ud_yses1 hx (br_f (by decide) (ud_yrow0 a (br_t rfl ⟨rfl, hup⟩)))
  refine ud_xses1 hx (br_f (by decide) (ud_xrow1 hr (br_f (by decide) ?_)))
  refine ud_lock hr h (fun e => ?_) (fun x' p hx' hp e1 e2 => ?_)
  · refine br_t ud_m1neg ?_
    refine ud_c42 h hk hx hr (Or.inl e) (P := fun post => wpY_change post (f_size, f_time, a_row, a_value, a_before, a_who, a_number, a_kept, a_now, a_lock, a_gone) (nI x) (nI r) v3) (fun post q => ?_)
    unfold wpY_change
    refine ud_yses1 hx (br_f (by decide) (ud_yrow1 hr (br_f (by decide) ⟨vp_in_nI hr (by decide), ?_⟩)))
    rw [ud_cl (by omega)]
    exact br_t e q
  · refine br_f (nI_pos (by omega)) ⟨vp_in_nI hx (by decide), ?_⟩
    rw [ud_cl (by omega)]
    have e4 : ¬ a_lock r = -4 := by rw [e1]; exact ud_nm4 (by omega)
    by_cases u : x' = x
    · subst u
      refine br_t e2.symm ?_
      refine ud_c42 h hk hx hr (Or.inr e1) (P := fun post => wpY_change post (f_size, f_time, a_row, a_value, a_before, a_who, a_number, a_kept, a_now, a_lock, a_gone) (nI x') (nI r) v3) (fun post q => ?_)
      unfold wpY_change
      refine ud_yses1 hx (br_f (by decide) (ud_yrow1 hr (br_f (by decide) ⟨vp_in_nI hr (by decide), ?_⟩)))
      rw [ud_cl (by omega)]
      exact br_f e4 ⟨vp_in_nI hr (by decide), br_t e1 q⟩
    · refine br_f (fun q => u (h.2.2.2.2.2.2.2.1 x' x hx' hx (by rw [e2]; exact ud_nm1 (by omega)) (by rw [e2]; exact q))) ?_
      unfold wpY_change
      refine ud_yses1 hx (br_f (by decide) (ud_yrow1 hr (br_f (by decide) ⟨vp_in_nI hr (by decide), ?_⟩)))
      rw [ud_cl (by omega)]
      exact br_f e4 ⟨vp_in_nI hr (by decide), br_f (by rw [e1]; exact fun q => u (ud_inj (by omega) (by omega) q)) ⟨rfl, hup⟩⟩
end
end
section
/-! ===== rollback ===== -/
def ud_nm (who num : Nat → Int32) (x : Nat) : Nat → Int32 := fun i => if who i = nI x ∧ num i = 0 then -1 else num i
theorem ud_nm_t {who num : Nat → Int32} {x i : Nat} (h : who i = nI x ∧ num i = 0) : ud_nm who num x i = -1 := if_pos h
theorem ud_nm_f {who num : Nat → Int32} {x i : Nat} (h : ¬ (who i = nI x ∧ num i = 0)) : ud_nm who num x i = num i := if_neg h
theorem ud_PLnm {row who num : Nat → Int32} {x i : Nat} {r : Int32} (h : ud_PL row num r i = false) : ud_PL row (ud_nm who num x) r i = false := by
  apply ud_nt
  intro q
  obtain ⟨q1, q2⟩ := ud_PLi q
  by_cases z : who i = nI x ∧ num i = 0
  · exact q2 (ud_nm_t z)
  · rw [ud_nm_f z] at q2
    rw [ud_PLt q1 q2] at h
    exact absurd h (by decide)
def ud_ni (who num : Nat → Int32) (x i : Nat) : Nat → Int32 := fun c => if i ≤ c ∧ who c = nI x ∧ num c = 0 then -1 else num c
theorem ud_ni_t {who num : Nat → Int32} {x i c : Nat} (h : i ≤ c ∧ who c = nI x ∧ num c = 0) : ud_ni who num x i c = -1 := if_pos h
theorem ud_ni_f {who num : Nat → Int32} {x i c : Nat} (h : ¬ (i ≤ c ∧ who c = nI x ∧ num c = 0)) : ud_ni who num x i c = num c := if_neg h
theorem ud_ni_s {who num : Nat → Int32} {x i c : Nat} (h : ¬ (c = i ∧ who c = nI x ∧ num c = 0)) : ud_ni who num x (i + 1) c = ud_ni who num x i c := by
  by_cases z : i ≤ c ∧ who c = nI x ∧ num c = 0
  · rw [ud_ni_t z, ud_ni_t ⟨by
      have z1 := z.1
      have y : c ≠ i := fun q => h ⟨q, z.2⟩
      omega, z.2⟩]
  · rw [ud_ni_f z, ud_ni_f (fun q => z ⟨by have := q.1; omega, q.2⟩)]
theorem ud_PLe {row num num' : Nat → Int32} {r : Int32} {j : Nat} (h : num j = num' j) : ud_PL row num r j = ud_PL row num' r j := by
  unfold ud_PL
  rw [h]
/-- rows below i are undone -/
def ud_RB (row who num value : Nat → Int32) (x sz p i : Nat) (U V : Nat → Bool) (ro pl va : Nat → Int32) : Prop :=
  (∀ c, V c = true → U c = true) ∧ (∀ c, U c = true → V c = false → pl c = nI p) ∧
  (∀ c r, V c = true → r < i → ro c = nI r → ¬ pl c = nI p) ∧
  (∀ c r, U c = true → i ≤ r → r < 8 → ro c = nI r → V c = true) ∧
  (∀ r, r < i → va r = ud_lv (ud_PL row (ud_nm who num x) (nI r)) value sz) ∧
  (∀ r, i ≤ r → r < 8 → va r = ud_lv (ud_PL row num (nI r)) value sz)
/-- rows below r are undone, row r from time T on -/
def ud_RC (row who num value : Nat → Int32) (x sz p r T : Nat) (U V : Nat → Bool) (g : Nat → Nat) (ro pl va : Nat → Int32) : Prop :=
  (∀ c, V c = true → U c = true) ∧ (∀ c, U c = true → V c = false → pl c = nI p) ∧
  (∀ c r', V c = true → r' < r → ro c = nI r' → ¬ pl c = nI p) ∧
  (∀ c r', U c = true → r < r' → r' < 8 → ro c = nI r' → V c = true) ∧
  (∀ r', r' < r → va r' = ud_lv (ud_PL row (ud_nm who num x) (nI r')) value sz) ∧
  (∀ r', r < r' → r' < 8 → va r' = ud_lv (ud_PL row num (nI r')) value sz) ∧
  T ≤ sz ∧ (∀ c, U c = true → ro c = nI r → (V c = true ↔ g c < T)) ∧
  va r = ud_lv (ud_PL row num (nI r)) value T ∧
  ud_lv (ud_PL row (ud_nm who num x) (nI r)) value sz = ud_lv (ud_PL row (ud_nm who num x) (nI r)) value T
section
variable {f_used f_first f_last f_count f_taken f_now : Int32} {a_values a_newest a_forgotten a_rowOf a_oldValue a_placeOf a_olderOfRow a_olderOfAll a_newerOfAll a_changesOf a_numberOf a_openPlace : Nat → Int32} {f_size f_time : Int32} {a_row a_value a_before a_who a_number a_kept a_now a_lock a_gone : Nat → Int32} {k sz t : Nat} {U : Nat → Bool} {g : Nat → Nat}
/-- a row is undone: nothing of the place is left in it -/
theorem ud_rc_end (h : ud_R k sz t U g f_used f_first f_last f_count f_taken f_now a_values a_newest a_forgotten a_rowOf a_oldValue a_placeOf a_olderOfRow a_olderOfAll a_newerOfAll a_changesOf a_numberOf a_openPlace f_size f_time a_row a_value a_before a_who a_number a_kept a_now a_lock a_gone) {x p r T : Nat} {V : Nat → Bool} {va : Nat → Int32} (hx : x < 4) (hp : p < 32) (ho : a_openPlace x = nI p) (hr : r < 8) (hC : ud_RC a_row a_who a_number a_value x sz p r T U V g a_rowOf a_placeOf va)
    (he : ∀ d, V d = true → a_rowOf d = nI r → ∃ c, V c = true ∧ a_rowOf c = nI r ∧ ¬ a_placeOf c = nI p ∧ g d ≤ g c) :
    ud_RB a_row a_who a_number a_value x sz p (r + 1) U V a_rowOf a_placeOf va := by
  have hpl := fun c uc => ud_place h (c := c) hx hp ho uc
  obtain ⟨_, hX, hW, ⟨y1, y2, y3, y4, y5, y6, y7, y8⟩, z1, z2, z3, z4, z5⟩ := h
  obtain ⟨c1, c2, c3, c4, c5, c6, c7, c8, c9, c10⟩ := hC
  have E1 : ∀ d, V d = true → a_rowOf d = nI r → ¬ a_placeOf d = nI p := by
    intro d vd rd pd
    obtain ⟨c, vc, rc, pc, gc⟩ := he d vd rd
    have od := (hpl d (c1 d vd)).mp pd
    obtain ⟨wd1, wd2, wd3, _⟩ := z1 d (c1 d vd)
    obtain ⟨wc1, wc2, wc3, _⟩ := z1 c (c1 c vc)
    have rowd : a_row (g d) = nI r := by rw [← wd3]; exact rd
    have rowc : a_row (g c) = nI r := by rw [← wc3]; exact rc
    have hne : g d ≠ g c := fun q => pc (by rw [← hX.2.2.1 d c (c1 d vd) (c1 c vc) q]; exact pd)
    have n0 : a_number (g c) = 0 := by
      rcases y4 (g d) (g c) (by omega) wc1 (by rw [rowd, rowc]) (by rw [od.2]; decide) ((y2 (g c) wc1).2 wc2) with q | q
      · exact q
      · exact absurd od.2 q.1
    have l1 := y7 (g d) wd1 od.2 r hr rowd
    have l2 := y7 (g c) wc1 n0 r hr rowc
    exact pc ((hpl c (c1 c vc)).mpr ⟨by rw [← l2, l1]; exact od.1, n0⟩)
  refine ⟨c1, c2, fun c r' vc hr' rc => ?_, fun c r' uc h1 h2 rc => c4 c r' uc (by omega) h2 rc, fun r' hr' => ?_, fun r' h1 h2 => c6 r' (by omega) h2⟩
  · by_cases z : r' = r
    · rw [z] at rc; exact E1 c vc rc
    · exact c3 c r' vc (by omega) rc
  · by_cases z : r' = r
    · rw [z, c9, c10]
      refine ud_lv_cg T (fun j hj => ?_) (fun _ _ _ => rfl)
      by_cases w : ud_PL a_row a_number (nI r) j = true
      · obtain ⟨q1, q2⟩ := ud_PLi w
        rw [w]
        refine (ud_PLt q1 ?_).symm
        have hO : ¬ (a_who j = nI x ∧ a_number j = 0) := fun q => by
          obtain ⟨d, u1, u2⟩ := z2 j (by omega) ((y2 j (by omega)).1 q.2)
          have rd : a_rowOf d = nI r := by rw [(z1 d u1).2.2.1, u2]; exact q1
          exact E1 d ((c8 d u1 rd).mpr (by omega)) rd ((hpl d u1).mpr (by rw [u2]; exact q))
        rw [ud_nm_f hO]
        exact q2
      · rw [ud_nt w, ud_PLnm (ud_nt w)]
    · exact c5 r' (by omega)
/-- one change is undone -/
theorem ud_rc_pop (h : ud_R k sz t U g f_used f_first f_last f_count f_taken f_now a_values a_newest a_forgotten a_rowOf a_oldValue a_placeOf a_olderOfRow a_olderOfAll a_newerOfAll a_changesOf a_numberOf a_openPlace f_size f_time a_row a_value a_before a_who a_number a_kept a_now a_lock a_gone) {x p r T c : Nat} {V : Nat → Bool} {va : Nat → Int32} (hx : x < 4) (hp : p < 32) (ho : a_openPlace x = nI p) (hr : r < 8) (hC : ud_RC a_row a_who a_number a_value x sz p r T U V g a_rowOf a_placeOf va)
    (vc : V c = true) (rc : a_rowOf c = nI r) (pc : a_placeOf c = nI p) (hm : ∀ d, V d = true → a_rowOf d = nI r → g d ≤ g c) :
    ud_RC a_row a_who a_number a_value x sz p r (g c) U (ud_rm V c) g a_rowOf a_placeOf (upd va r (a_oldValue c)) := by
  have hpl := fun c uc => ud_place h (c := c) hx hp ho uc
  have hgap := fun c T i uc hT hm h1 h2 => ud_gap h (r := r) (c := c) (T := T) (i := i) hr uc hT hm h1 h2
  obtain ⟨_, hX, hW, ⟨y1, y2, y3, y4, y5, y6, y7, y8⟩, z1, z2, z3, z4, z5⟩ := h
  obtain ⟨c1, c2, c3, c4, c5, c6, c7, c8, c9, c10⟩ := hC
  have uc := c1 c vc
  have gT := (c8 c uc rc).mp vc
  obtain ⟨w1, w2, w3, w4, _⟩ := z1 c uc
  have hrow : a_row (g c) = nI r := by rw [← w3]; exact rc
  refine ⟨fun d vd => c1 d (ud_rm_i.mp vd).1, fun d ud vd => ?_, fun d r' vd h1 h2 => c3 d r' (ud_rm_i.mp vd).1 h1 h2, fun d r' ud h1 h2 h3 => ?_, fun r' h1 => ?_, fun r' h1 h2 => ?_, by omega, fun d ud rd => ?_, ?_, ?_⟩
  · by_cases z : V d = true
    · by_cases y : d = c
      · rw [y]; exact pc
      · rw [ud_rm_i.mpr ⟨z, y⟩] at vd
        exact absurd vd (by decide)
    · exact c2 d ud (ud_nt z)
  · refine ud_rm_i.mpr ⟨c4 d r' ud h1 h2 h3, fun q => ?_⟩
    rw [q, rc] at h3
    have := ud_inj (by omega) (by omega) h3
    omega
  · rw [pk_un (by omega)]; exact c5 r' h1
  · rw [pk_un (by omega)]; exact c6 r' h1 h2
  · constructor
    · intro vd
      obtain ⟨v1, v2⟩ := ud_rm_i.mp vd
      have v3 := hm d v1 rd
      have v4 : g d ≠ g c := fun q => v2 (hX.2.2.1 d c ud uc q)
      omega
    · intro q
      refine ud_rm_i.mpr ⟨(c8 d ud rd).mpr (by omega), fun w => ?_⟩
      rw [w] at q
      omega
  · rw [pk_us, w4, y5 (g c) w1 ((y2 (g c) w1).2 w2), hrow]
  · rw [c10]
    refine ud_lv_skip T (by omega) (fun j a b => ?_)
    by_cases v : j = g c
    · apply ud_nt
      intro q
      have q2 := (ud_PLi q).2
      rw [v, ud_nm_t ((hpl c uc).mp pc)] at q2
      exact q2 rfl
    · refine ud_PLnm (hgap c T j uc c7 (fun d u1 u2 u3 => hm d ((c8 d u1 u2).mpr u3) u2) (by omega) b)
theorem ud_rb37 {post : Int32 → SX → Prop} {J : Int32 → Int32 → Int32 → Int32 → Int32 → Int32 → Int32 → (Nat → Int32) → (Nat → Int32) → (Nat → Int32) → (Nat → Int32) → (Nat → Int32) → (Nat → Int32) → (Nat → Int32) → (Nat → Int32) → (Nat → Int32) → (Nat → Int32) → (Nat → Int32) → (Nat → Int32) → Prop} (h : ud_R k sz t U g f_used f_first f_last f_count f_taken f_now a_values a_newest a_forgotten a_rowOf a_oldValue a_placeOf a_olderOfRow a_olderOfAll a_newerOfAll a_changesOf a_numberOf a_openPlace f_size f_time a_row a_value a_before a_who a_number a_kept a_now a_lock a_gone) {x p r : Nat} (hx : x < 4) (hp : p < 32) (ho : a_openPlace x = nI p) (hr : r < 8)
    (K : ∀ (V : Nat → Bool) (us fi la co : Int32) (va nw oa na ch : Nat → Int32), ud_XL V g us fi la co a_rowOf a_placeOf oa na ch → ud_Rw V (ud_ps g) nw a_rowOf a_olderOfRow → ud_RB a_row a_who a_number a_value x sz p (r + 1) U V a_rowOf a_placeOf va → J (nI (r + 1)) us fi la co f_taken f_now va nw a_forgotten a_rowOf a_oldValue a_placeOf a_olderOfRow oa na ch a_numberOf a_openPlace) :
    ∀ (n i T : Nat) (V : Nat → Bool) (us fi la co : Int32) (va nw oa na ch : Nat → Int32), i ≤ 24 → 24 < n + i → ud_XL V g us fi la co a_rowOf a_placeOf oa na ch → ud_Rw V (ud_ps g) nw a_rowOf a_olderOfRow → ud_RC a_row a_who a_number a_value x sz p r T U V g a_rowOf a_placeOf va → ud_cn (fun c => V c && decide (a_rowOf c = nI r)) 24 + i ≤ 24 → wX_rollback_37 post J (nI x) (nI p) (nI r) n (nI i) us fi la co f_taken f_now va nw a_forgotten a_rowOf a_oldValue a_placeOf a_olderOfRow oa na ch a_numberOf a_openPlace := by
  have hnof : a_numberOf p = 0 := by
    rcases h.2.2.2.2.2.2.1 x hx with v | ⟨p', v1, v2, v3, _⟩
    · rw [ho] at v; exact absurd v.1 (ud_nm1 (by omega))
    · rw [ho] at v2
      rw [ud_inj (by omega) (by omega) v2]; exact v3
  intro n
  induction n with
  | zero => intro i T V us fi la co va nw oa na ch h1 h2; omega
  | succ n ih =>
    intro i T V us fi la co va nw oa na ch h1 h2 hX hW hC hcn
    have hend : (∀ d, V d = true → a_rowOf d = nI r → ∃ c, V c = true ∧ a_rowOf c = nI r ∧ ¬ a_placeOf c = nI p ∧ g d ≤ g c) → ∀ y : Int32, y = nI r + 1 → J y us fi la co f_taken f_now va nw a_forgotten a_rowOf a_oldValue a_placeOf a_olderOfRow oa na ch a_numberOf a_openPlace := fun he y ey => by
      rw [ey, nI_1]
      exact K V us fi la co va nw oa na ch hX hW (ud_rc_end h hx hp ho hr hC he)
    unfold wX_rollback_37
    by_cases z : i = 24
    · refine br_t (by rw [z]; exact Int32.le_refl _) (hend ?_)
      intro d vd rd
      exfalso
      have q := ud_cn_zero 24 (show ud_cn (fun c => V c && decide (a_rowOf c = nI r)) 24 = 0 by omega) d (hX.1 d vd)
      have q' : (V d && decide (a_rowOf d = nI r)) = false := q
      rw [vd, decide_eq_true rd] at q'
      exact absurd q' (by decide)
    · refine br_f (nI_ge (b := 24) (by omega) (by decide)) ⟨vp_in_nI hr (by decide), ?_⟩
      rw [ud_cl (n := r) (by omega)]
      have mx := hW.1 r hr
      by_cases y : nw r < 0
      · refine br_t y (hend ?_)
        intro d vd rd
        exact absurd ⟨vd, rd⟩ ((ud_mx_neg mx y).2 d)
      · obtain ⟨c, c1, c2, c3, c4⟩ := ud_mx_nn mx y
        obtain ⟨vc, rc⟩ := c3
        have hm : ∀ d, V d = true → a_rowOf d = nI r → g d ≤ g c := fun d u1 u2 => Int.ofNat_le.mp (c4 d ⟨u1, u2⟩)
        refine br_f y ⟨vp_in_nI hr (by decide), by rw [c2]; exact vp_in_nI c1 (by decide), ?_⟩
        rw [c2, ud_cl (n := c) (by omega)]
        by_cases w : a_placeOf c = nI p
        · refine br_t w ⟨vp_in_nI hr (by decide), ?_⟩
          intro x5 e5
          subst e5
          rw [ud_cl (n := c) (by omega)]
          refine ⟨vp_in_nI c1 (by decide), vp_in_nI hr (by decide), ?_⟩
          intro va2 eva
          refine ⟨vp_in_nI c1 (by decide), vp_in_nI hr (by decide), ?_⟩
          intro nw2 enw
          have horr := ud_mx_by (hW.2 c vc)
          rw [ud_nar horr] at enw
          subst eva enw
          have inj1 : ∀ c d, V c = true → V d = true → ud_ps g c = ud_ps g d → c = d := fun c d uc ud q => hX.2.2.1 c d uc ud (Int.ofNat.inj q)
          have hW2 := ud_rw_pop hX.1 inj1 vc hr rc c2 hW
          have hC2 := ud_rc_pop h hx hp ho hr hC vc rc w hm
          refine ud_unlink hX vc hp w (fun us2 fi2 la2 co2 tk2 oa2 na2 ch2 hX2 ht2 => ?_)
          rw [if_neg (fun q => q.2 hnof)] at ht2
          subst ht2
          intro x4 e4
          rw [e4, nI_1]
          refine ih (i + 1) (g c) (ud_rm V c) us2 fi2 la2 co2 _ _ oa2 na2 ch2 (by omega) (by omega) hX2 hW2 hC2 ?_
          have q := ud_cn_add (f := fun d => ud_rm V c d && decide (a_rowOf d = nI r)) (g := fun d => V d && decide (a_rowOf d = nI r)) (e := c) (by
            show (ud_rm V c c && decide (a_rowOf c = nI r)) = false
            unfold ud_rm
            rw [decide_eq_true (rfl : c = c), Bool.not_true, Bool.and_false, Bool.false_and]) (by
            show (V c && decide (a_rowOf c = nI r)) = true
            rw [vc, decide_eq_true rc]
            rfl) (fun j hj => by
            show (V j && decide (a_rowOf j = nI r)) = (ud_rm V c j && decide (a_rowOf j = nI r))
            unfold ud_rm
            rw [decide_eq_false hj, Bool.not_false, Bool.and_true]) 24 c1
          omega
        · refine br_f w (hend ?_)
          intro d vd rd
          exact ⟨c, vc, rc, w, hm d vd rd⟩
theorem ud_rb28 {post : Int32 → SX → Prop} (h : ud_R k sz t U g f_used f_first f_last f_count f_taken f_now a_values a_newest a_forgotten a_rowOf a_oldValue a_placeOf a_olderOfRow a_olderOfAll a_newerOfAll a_changesOf a_numberOf a_openPlace f_size f_time a_row a_value a_before a_who a_number a_kept a_now a_lock a_gone) {x p : Nat} (hx : x < 4) (hp : p < 32) (ho : a_openPlace x = nI p)
    (K : ∀ (V : Nat → Bool) (us fi la co : Int32) (va nw oa na ch : Nat → Int32), ud_XL V g us fi la co a_rowOf a_placeOf oa na ch → ud_Rw V (ud_ps g) nw a_rowOf a_olderOfRow → ud_RB a_row a_who a_number a_value x sz p 8 U V a_rowOf a_placeOf va → post 0 (us, fi, la, co, f_taken &&& (((1 : Int32) <<< (nI p &&& 31)) ^^^ (-1)), f_now, va, nw, a_forgotten, a_rowOf, a_oldValue, a_placeOf, a_olderOfRow, oa, na, ch, a_numberOf, upd a_openPlace x (-1))) :
    ∀ (n i : Nat) (V : Nat → Bool) (us fi la co : Int32) (va nw oa na ch : Nat → Int32), i ≤ 8 → 8 < n + i → ud_XL V g us fi la co a_rowOf a_placeOf oa na ch → ud_Rw V (ud_ps g) nw a_rowOf a_olderOfRow → ud_RB a_row a_who a_number a_value x sz p i U V a_rowOf a_placeOf va → wX_rollback_28 post (nI x) (nI p) n (nI i) us fi la co f_taken f_now va nw a_forgotten a_rowOf a_oldValue a_placeOf a_olderOfRow oa na ch a_numberOf a_openPlace := by
  intro n
  induction n with
  | zero => intro i V us fi la co va nw oa na ch h1 h2; omega
  | succ n ih =>
    intro i V us fi la co va nw oa na ch h1 h2 hX hW hB
    unfold wX_rollback_28
    by_cases z : i = 8
    · subst z
      refine br_t (Int32.le_refl _) ?_
      intro tk etk
      refine ⟨vp_in_nI hx (by decide), ?_⟩
      intro op eop
      rw [ud_cl (by omega), ud_narm] at eop
      subst etk eop
      exact K V us fi la co va nw oa na ch hX hW hB
    · refine br_f (nI_ge (b := 8) (by omega) (by decide)) ⟨25, ?_⟩
      obtain ⟨b1, b2, b3, b4, b5, b6⟩ := hB
      refine ud_rb37 h hx hp ho (show i < 8 by omega) (fun V us fi la co va nw oa na ch q1 q2 q3 => ih (i + 1) V us fi la co va nw oa na ch (by omega) (by omega) q1 q2 q3) 25 0 sz V us fi la co va nw oa na ch (by omega) (by omega) hX hW ?_ (by rw [Nat.add_zero]; exact ud_cn_le _ 24)
      refine ⟨b1, b2, b3, fun c r' uc q1 q2 q3 => b4 c r' uc (by omega) q2 q3, b5, fun r' q1 q2 => b6 r' (by omega) q2, Nat.le_refl _, fun c uc rc => ?_, b6 i (Nat.le_refl _) (by omega), rfl⟩
      exact ⟨fun _ => (h.2.2.2.2.1 c uc).1, fun _ => b4 c i uc (Nat.le_refl _) (by omega) rc⟩
/-- both sides behind the rollback -/
theorem ud_R_rb (h : ud_R k sz t U g f_used f_first f_last f_count f_taken f_now a_values a_newest a_forgotten a_rowOf a_oldValue a_placeOf a_olderOfRow a_olderOfAll a_newerOfAll a_changesOf a_numberOf a_openPlace f_size f_time a_row a_value a_before a_who a_number a_kept a_now a_lock a_gone) {x p : Nat} (hx : x < 4) (hp : p < 32) (ho : a_openPlace x = nI p) {V : Nat → Bool} {us fi la co : Int32} {va nw oa na ch nu ke no lk : Nat → Int32} (hX : ud_XL V g us fi la co a_rowOf a_placeOf oa na ch) (hW : ud_Rw V (ud_ps g) nw a_rowOf a_olderOfRow) (hB : ud_RB a_row a_who a_number a_value x sz p 8 U V a_rowOf a_placeOf va)
    (hnu : ∀ i, i < sz → nu i = if a_who i = nI x ∧ a_number i = 0 then -1 else a_number i) (hke : ∀ i, i < sz → ke i = if a_who i = nI x ∧ a_number i = 0 then 0 else a_kept i) (hno : ∀ r, r < 8 → no r = ud_lv (ud_PL a_row (ud_nm a_who a_number x) (nI r)) a_value sz) (hlk : ∀ r, r < 8 → lk r = if a_lock r = nI x then -4 else a_lock r) :
    ud_R (k + 4) sz t V g us fi la co (f_taken &&& (((1 : Int32) <<< (nI p &&& 31)) ^^^ (-1))) f_now va nw a_forgotten a_rowOf a_oldValue a_placeOf a_olderOfRow oa na ch a_numberOf (upd a_openPlace x (-1)) f_size f_time a_row a_value a_before a_who nu ke no lk a_gone := by
  have hpl := fun c uc => ud_place h (c := c) hx hp ho uc
  obtain ⟨⟨a1, a2, a3, a4, a5, a6, a7⟩, hX0, hW0, ⟨y1, y2, y3, y4, y5, y6, y7, y8⟩, z1, z2, z3, z4, z5⟩ := h
  obtain ⟨b1, b2, b3, b4, b5, b6⟩ := hB
  have hV : ∀ c, V c = true ↔ (U c = true ∧ ¬ a_placeOf c = nI p) := fun c => by
    constructor
    · intro vc
      obtain ⟨r, r1, r2⟩ := hX.2.2.2.1 c vc
      exact ⟨b1 c vc, b3 c r vc r1 r2⟩
    · intro ⟨uc, q⟩
      exact ud_nf (fun w => q (b2 c uc w))
  have on : ∀ i, i < sz → ¬ nu i = -1 → ¬ (a_who i = nI x ∧ a_number i = 0) ∧ nu i = a_number i ∧ ke i = a_kept i := fun i hi q => by
    by_cases z : a_who i = nI x ∧ a_number i = 0
    · rw [hnu i hi, if_pos z] at q; exact absurd rfl q
    · exact ⟨z, by rw [hnu i hi, if_neg z], by rw [hke i hi, if_neg z]⟩
  have nO : ∀ i, i < sz → ¬ (a_who i = nI x ∧ a_number i = 0) → nu i = a_number i ∧ ke i = a_kept i := fun i hi z =>
    ⟨by rw [hnu i hi, if_neg z], by rw [hke i hi, if_neg z]⟩
  have ok : ∀ i, i < sz → ¬ ke i = 0 → ¬ (a_who i = nI x ∧ a_number i = 0) := fun i hi q z => by
    rw [hke i hi, if_pos z] at q; exact q rfl
  have n0 : ∀ i, i < sz → nu i = 0 → a_number i = 0 ∧ ¬ a_who i = nI x := fun i hi q => by
    obtain ⟨w1, w2, w3⟩ := on i hi (by rw [q]; decide)
    rw [w2] at q
    exact ⟨q, fun w => w1 ⟨w, q⟩⟩
  have n0' : ∀ i, i < sz → a_number i = 0 → ¬ a_who i = nI x → nu i = 0 := fun i hi q w => by
    rw [(nO i hi (fun z => w z.1)).1]; exact q
  have hnm : ∀ i, i < sz → ud_nm a_who a_number x i = nu i := fun i hi => (hnu i hi).symm
  have hlv : ∀ (r : Int32) n, n ≤ sz → ud_lv (ud_PL a_row (ud_nm a_who a_number x) r) a_value n = ud_lv (ud_PL a_row nu r) a_value n := fun r n hn =>
    ud_lv_cg n (fun i hi => by unfold ud_PL; rw [hnm i (by omega)]) (fun _ _ _ => rfl)
  refine ⟨⟨a1, a2, a3, by omega, by omega, ?_, a7⟩, hX, hW, ⟨?_, ?_, ?_, ?_, ?_, ?_, ?_, ?_⟩, ?_, ?_, ?_, ?_, ?_⟩
  · intro r hr
    rw [b5 r hr, hno r hr]
  · intro i hi
    obtain ⟨d1, d2, d3⟩ := y1 i hi
    refine ⟨d1, d2, ?_⟩
    by_cases z : a_who i = nI x ∧ a_number i = 0
    · rw [hnu i hi, if_pos z]; exact Or.inl rfl
    · rw [hnu i hi, if_neg z]; exact d3
  · intro i hi
    refine ⟨fun q => ?_, fun q => ?_⟩
    · have w := (on i hi (by rw [q]; decide)).2.2
      rw [w]
      exact (y2 i hi).1 (n0 i hi q).1
    · have w := nO i hi (ok i hi q)
      rw [w.2] at q
      rw [w.1]
      exact (y2 i hi).2 q
  · intro i hi q1 q2
    obtain ⟨w1, w2, w3⟩ := on i hi q2
    rw [w3] at q1
    rw [w2] at q2
    obtain ⟨d1, d2⟩ := y3 i hi q1 q2
    refine ⟨fun r hr q3 => by rw [w2]; exact d1 r hr q3, fun j hj q3 => d2 j hj ?_⟩
    rw [(nO j hj (ok j hj q3)).2] at q3
    exact q3
  · intro i j hij hj hrow q1 q2
    have w1 := (on i (by omega) q1).2.1
    have w2 := (on j hj q2).2.1
    rw [w1] at q1
    rw [w2] at q2
    rw [w1, w2]
    exact y4 i j hij hj hrow q1 q2
  · intro i hi q
    obtain ⟨w1, w2, w3⟩ := on i hi q
    rw [w2] at q
    rw [y5 i hi q]
    refine ud_lv_cg i (fun j hj => ?_) (fun _ _ _ => rfl)
    by_cases z : a_who j = nI x ∧ a_number j = 0
    · by_cases y : a_row j = a_row i
      · exfalso
        have m0 : a_number i = 0 := by
          rcases y4 j i hj hi y (by rw [z.2]; decide) q with u | u
          · exact u
          · exact absurd z.2 u.1
        obtain ⟨r, r1, r2⟩ := (y1 i hi).1
        have l1 := y7 j (by omega) z.2 r r1 (by rw [y]; exact r2)
        have l2 := y7 i hi m0 r r1 r2
        exact w1 ⟨by rw [← l2, l1]; exact z.1, m0⟩
      · unfold ud_PL
        rw [decide_eq_false y, Bool.false_and, Bool.false_and]
    · unfold ud_PL
      rw [(nO j (by omega) z).1]
  · intro r hr
    rw [hno r hr, hlv _ sz (Nat.le_refl _)]
  · intro i hi q r hr q2
    obtain ⟨d1, d2⟩ := n0 i hi q
    have e := y7 i hi d1 r hr q2
    rw [hlk r hr, if_neg (by rw [e]; exact d2)]
    exact e
  · intro r hr
    rw [hlk r hr]
    by_cases z : a_lock r = nI x
    · rw [if_pos z]; exact Or.inl rfl
    · rw [if_neg z]
      rcases y8 r hr with q | ⟨i, i1, i2, i3⟩
      · exact Or.inl q
      · refine Or.inr ⟨i, i1, n0' i i1 i2 ?_, i3⟩
        rw [← y7 i i1 i2 r hr i3]
        exact z
  · intro c vc
    obtain ⟨uc, pc⟩ := (hV c).mp vc
    obtain ⟨w1, w2, w3, w4, w5, w6⟩ := z1 c uc
    have hO : ¬ (a_who (g c) = nI x ∧ a_number (g c) = 0) := fun q => pc ((hpl c uc).mpr q)
    obtain ⟨e1, e2⟩ := nO (g c) w1 hO
    rw [e1, e2]
    refine ⟨w1, w2, w3, w4, w5, fun q y hy q2 => ?_⟩
    rw [pk_un (fun v => hO ⟨by rw [q2, v], q⟩)]
    exact w6 q y hy q2
  · intro i hi q
    have hO := ok i hi q
    rw [(nO i hi hO).2] at q
    obtain ⟨c, u1, u2⟩ := z2 i hi q
    exact ⟨c, (hV c).mpr ⟨u1, fun w => hO (by rw [← u2]; exact (hpl c u1).mp w)⟩, u2⟩
  · intro y hy
    by_cases z : y = x
    · rw [z, pk_us]
      exact Or.inl ⟨rfl, fun i hi q => (n0 i hi q).2⟩
    · rw [pk_un z]
      rcases z3 y hy with ⟨d1, d2⟩ | ⟨p', d1, d2, d3, i, i1, i2, i3⟩
      · exact Or.inl ⟨d1, fun i hi q => d2 i hi (n0 i hi q).1⟩
      · refine Or.inr ⟨p', d1, d2, d3, i, i1, n0' i i1 i2 (fun q => z ?_), i3⟩
        rw [i3] at q
        exact ud_inj (by omega) (by omega) q
  · intro y y' hy hy' q q2
    by_cases z : y = x
    · rw [z, pk_us] at q; exact absurd rfl q
    · by_cases z' : y' = x
      · rw [z', pk_us] at q2; exact absurd q2 q
      · rw [pk_un z] at q q2
        rw [pk_un z'] at q2
        exact z4 y y' hy hy' q q2
  · intro p' hp'
    rw [ud_clr f_taken (by omega) (by omega)]
    by_cases z : p' = p
    · rw [z, decide_eq_true rfl, Bool.not_true, Bool.and_false]
      exact ⟨fun q => absurd q (by decide), fun ⟨c, c1, c2⟩ => absurd c2 ((hV c).mp c1).2⟩
    · rw [decide_eq_false z, Bool.not_false, Bool.and_true, z5 p' hp']
      constructor
      · intro ⟨c, c1, c2⟩
        refine ⟨c, (hV c).mpr ⟨c1, fun q => z ?_⟩, c2⟩
        rw [c2] at q
        exact ud_inj (by omega) (by omega) q
      · intro ⟨c, c1, c2⟩
        exact ⟨c, ((hV c).mp c1).1, c2⟩
theorem ud_rollback (h : ud_R k sz t U g f_used f_first f_last f_count f_taken f_now a_values a_newest a_forgotten a_rowOf a_oldValue a_placeOf a_olderOfRow a_olderOfAll a_newerOfAll a_changesOf a_numberOf a_openPlace f_size f_time a_row a_value a_before a_who a_number a_kept a_now a_lock a_gone) (hk : k + 4 ≤ 2048) (v : Int32) : wpX_rollback (fun r u' => wpY_rollback (fun r' v' => r' = r ∧ i_Rel (k + 4) u' v') (f_size, f_time, a_row, a_value, a_before, a_who, a_number, a_kept, a_now, a_lock, a_gone) v) (f_used, f_first, f_last, f_count, f_taken, f_now, a_values, a_newest, a_forgotten, a_rowOf, a_oldValue, a_placeOf, a_olderOfRow, a_olderOfAll, a_newerOfAll, a_changesOf, a_numberOf, a_openPlace) v := by
  have hup : i_Rel (k + 4) (f_used, f_first, f_last, f_count, f_taken, f_now, a_values, a_newest, a_forgotten, a_rowOf, a_oldValue, a_placeOf, a_olderOfRow, a_olderOfAll, a_newerOfAll, a_changesOf, a_numberOf, a_openPlace) (f_size, f_time, a_row, a_value, a_before, a_who, a_number, a_kept, a_now, a_lock, a_gone) := ⟨U, g, sz, t, ud_R_up (by omega) h⟩
  obtain ⟨⟨a1, a2, a3, a4, a5, a6, a7⟩, hX, hW, ⟨y1, y2, y3, y4, y5, y6, y7, y8⟩, hZ⟩ := id h
  have hz := ud_sz a4 hk
  unfold wpX_rollback
  rcases ud_key4 v with a | ⟨x, hx, rfl⟩
  · exact ud_xses0 a (br_t rfl (ud_ychs0 a3 (by omega) a (br_t rfl ⟨rfl, hup⟩)))
  · refine ud_xses1 hx (br_f (by decide) ⟨vp_in_nI hx (by decide), ?_⟩)
    rw [ud_cl (n := x) (by omega)]
    rcases hZ.2.2.1 x hx with ⟨b1, b2⟩ | ⟨p, b1, b2, b3, i, i1, i2, i3⟩
    · refine br_f (by rw [b1]; decide) ?_
      refine ud_ychs1 a3 (by omega) hx (br_t ?_ ⟨rfl, hup⟩)
      rw [ud_cn_none sz (fun i hi => ?_)]
      · rfl
      · unfold ud_OP
        by_cases y : a_number i = 0
        · rw [decide_eq_false (b2 i hi y), Bool.false_and]
        · rw [decide_eq_false y, Bool.and_false]
    · rw [b2]
      refine br_t (nI_pos' (by omega)) ⟨vp_in_nI hx (by decide), ?_⟩
      intro x2 e2
      subst e2
      refine ⟨9, ?_⟩
      refine ud_rb28 h hx b1 b2 (fun V us fi la co va nw oa na ch q1 q2 q3 => ?_) 9 0 U f_used f_first f_last f_count a_values a_newest a_olderOfAll a_newerOfAll a_changesOf (by omega) (by omega) hX hW ?_
      · have hpos : 0 < ud_cn (ud_OP a_who a_number (nI x)) sz := ud_cn_pos i1 (by
          unfold ud_OP
          rw [decide_eq_true i2, decide_eq_true i3]
          rfl)
        have hle := ud_cn_le (ud_OP a_who a_number (nI x)) sz
        refine ud_ychs1 a3 (by omega) hx (br_f (nI_ne0 hpos (by omega)) ?_)
        intro s1 es1
        refine ⟨sz + 1, ?_⟩
        have es2 : s1 = nI sz + (-1) := by
          obtain ⟨m, rfl⟩ : ∃ m, sz = m + 1 := ⟨sz - 1, by omega⟩
          rw [es1, a3, nI_pred, pk_m1]
        rw [es2]
        refine ud_yrb18 (I := fun i no => ∀ r, r < 8 → no r = ud_lv (ud_PL a_row (ud_ni a_who a_number x i) (nI r)) a_value sz) a3 (by omega) (fun i hi => (y1 i hi).1) (fun i r no hi hr hrow hw hn hI r' hr' => ?_) (fun i no hi hO hI r' hr' => ?_) (fun nu ke no lk p1 p2 p3 p4 => ?_) sz (Nat.le_refl _) a_number a_kept a_now (fun j q r => by omega) (fun _ _ => rfl) (fun j q r => by omega) (fun _ _ => rfl) (fun r hr => ?_)
        · by_cases z : r' = r
          · rw [z, pk_us, y5 i hi (by rw [hn]; decide), hrow]
            rw [ud_lv_skip (m := i) (P := ud_PL a_row (ud_ni a_who a_number x i) (nI r)) sz (by omega) (fun j w1 w2 => ?_)]
            · exact ud_lv_cg i (fun j hj => ud_PLe (ud_ni_f (fun q => by have := q.1; omega)).symm) (fun _ _ _ => rfl)
            · apply ud_nt
              intro q
              obtain ⟨d1, d2⟩ := ud_PLi q
              have d3 : ¬ (a_who j = nI x ∧ a_number j = 0) := fun u => d2 (ud_ni_t ⟨w1, u⟩)
              have d4 : ¬ a_number j = -1 := fun u => d2 (by rw [ud_ni_f (fun u2 => d3 u2.2)]; exact u)
              by_cases y : j = i
              · rw [y] at d3; exact d3 ⟨hw, hn⟩
              · have m0 : a_number j = 0 := by
                  rcases y4 i j (by omega) w2 (by rw [hrow, d1]) (by rw [hn]; decide) d4 with u | u
                  · exact u
                  · exact absurd hn u.1
                have l1 := y7 i hi hn r hr hrow
                have l2 := y7 j w2 m0 r hr d1
                exact d3 ⟨by rw [← l2, l1]; exact hw, m0⟩
          · rw [pk_un z, hI r' hr']
            refine ud_lv_cg sz (fun j hj => ?_) (fun _ _ _ => rfl)
            by_cases y : j = i
            · unfold ud_PL
              rw [y, hrow, decide_eq_false (fun q => z (ud_inj (by omega) (by omega) q).symm), Bool.false_and, Bool.false_and]
            · exact ud_PLe (ud_ni_s (fun q => y q.1))
        · rw [hI r' hr']
          refine ud_lv_cg sz (fun j hj => ?_) (fun _ _ _ => rfl)
          exact ud_PLe (ud_ni_s (fun q => hO (by rw [← q.1]; exact q.2)))
        · refine ⟨rfl, V, g, sz, t, ud_R_rb h hx b1 b2 q1 q2 q3 p1 p2 (fun r hr => ?_) p4⟩
          rw [p3 r hr]
          refine ud_lv_cg sz (fun j hj => ?_) (fun _ _ _ => rfl)
          refine ud_PLe ?_
          by_cases w : a_who j = nI x ∧ a_number j = 0
          · rw [ud_ni_t ⟨Nat.zero_le j, w⟩, ud_nm_t w]
          · rw [ud_ni_f (fun q => w q.2), ud_nm_f w]
        · rw [y6 r hr]
          refine ud_lv_cg sz (fun j hj => ?_) (fun _ _ _ => rfl)
          exact ud_PLe (ud_ni_f (fun q => by have := q.1; omega)).symm
      · refine ⟨fun c uc => uc, fun c uc vc => ?_, fun c r _ hr => by omega, fun c r uc _ _ _ => uc, fun r hr => by omega, fun r _ hr => ?_⟩
        · rw [uc] at vc; exact absurd vc (by decide)
        · rw [a6 r hr, y6 r hr]
end
end
section
/-! ===== the constructors ===== -/
section
variable {f_used f_first f_last f_count f_taken f_now : Int32} {a_values a_newest a_forgotten a_rowOf a_oldValue a_placeOf a_olderOfRow a_olderOfAll a_newerOfAll a_changesOf a_numberOf a_openPlace : Nat → Int32} {f_size f_time : Int32} {a_row a_value a_before a_who a_number a_kept a_now a_lock a_gone : Nat → Int32}
theorem ud_in132 {post : SX → Prop} (K : ∀ op : Nat → Int32, (∀ c, c < 4 → op c = -1) → post (f_used, f_first, f_last, f_count, f_taken, f_now, a_values, a_newest, a_forgotten, a_rowOf, a_oldValue, a_placeOf, a_olderOfRow, a_olderOfAll, a_newerOfAll, a_changesOf, a_numberOf, op)) : ∀ n i, i ≤ 4 → 4 < n + i → ∀ op : Nat → Int32, (∀ c, c < i → op c = -1) → wX_init_132 post f_used f_first f_last f_count f_taken f_now n (nI i) a_values a_newest a_forgotten a_rowOf a_oldValue a_placeOf a_olderOfRow a_olderOfAll a_newerOfAll a_changesOf a_numberOf op := by
  intro n
  induction n with
  | zero => intro i h1 h2; omega
  | succ n ih =>
    intro i h1 h2 op h3
    unfold wX_init_132
    by_cases z : i = 4
    · subst z
      exact br_t (Int32.le_refl _) (K op h3)
    · refine br_f (nI_ge (b := 4) (by omega) (by decide)) ⟨vp_in_nI (by omega) (by decide), ?_⟩
      intro o2 e2 x1 e1
      rw [ud_cl (by omega), ud_narm] at e2
      rw [e1, nI_1]
      refine ih (i + 1) (by omega) (by omega) o2 (fun c hc => ?_)
      rw [e2]
      by_cases y : c = i
      · rw [y, pk_us]
      · rw [pk_un y]; exact h3 c (by omega)
theorem ud_in111 {post : SX → Prop} (K : ∀ nw op : Nat → Int32, (∀ c, c < 8 → nw c = -1) → (∀ c, c < 4 → op c = -1) → post (f_used, f_first, f_last, f_count, f_taken, f_now, a_values, nw, a_forgotten, a_rowOf, a_oldValue, a_placeOf, a_olderOfRow, a_olderOfAll, a_newerOfAll, a_changesOf, a_numberOf, op)) : ∀ n i, i ≤ 8 → 8 < n + i → ∀ nw : Nat → Int32, (∀ c, c < i → nw c = -1) → wX_init_111 post f_used f_first f_last f_count f_taken f_now n (nI i) a_values nw a_forgotten a_rowOf a_oldValue a_placeOf a_olderOfRow a_olderOfAll a_newerOfAll a_changesOf a_numberOf a_openPlace := by
  intro n
  induction n with
  | zero => intro i h1 h2; omega
  | succ n ih =>
    intro i h1 h2 nw h3
    unfold wX_init_111
    by_cases z : i = 8
    · subst z
      refine br_t (Int32.le_refl _) ⟨5, ?_⟩
      exact ud_in132 (fun op q => K nw op h3 q) 5 0 (by omega) (by omega) a_openPlace (fun c hc => by omega)
    · refine br_f (nI_ge (b := 8) (by omega) (by decide)) ⟨vp_in_nI (by omega) (by decide), ?_⟩
      intro o2 e2 x1 e1
      rw [ud_cl (by omega), ud_narm] at e2
      rw [e1, nI_1]
      refine ih (i + 1) (by omega) (by omega) o2 (fun c hc => ?_)
      rw [e2]
      by_cases y : c = i
      · rw [y, pk_us]
      · rw [pk_un y]; exact h3 c (by omega)
theorem ud_in84 {post : SY → Prop} (K : ∀ lk : Nat → Int32, (∀ c, c < 8 → lk c = -4) → post (f_size, f_time, a_row, a_value, a_before, a_who, a_number, a_kept, a_now, lk, a_gone)) : ∀ n i, i ≤ 8 → 8 < n + i → ∀ lk : Nat → Int32, (∀ c, c < i → lk c = -4) → wY_init_84 post f_size f_time n (nI i) a_row a_value a_before a_who a_number a_kept a_now lk a_gone := by
  intro n
  induction n with
  | zero => intro i h1 h2; omega
  | succ n ih =>
    intro i h1 h2 lk h3
    unfold wY_init_84
    by_cases z : i = 8
    · subst z
      exact br_t (Int32.le_refl _) (K lk h3)
    · refine br_f (nI_ge (b := 8) (by omega) (by decide)) ⟨vp_in_nI (by omega) (by decide), ?_⟩
      intro o2 e2 x1 e1
      rw [ud_cl (by omega)] at e2
      rw [e1, nI_1]
      refine ih (i + 1) (by omega) (by omega) o2 (fun c hc => ?_)
      rw [e2]
      by_cases y : c = i
      · rw [y, pk_us]
      · rw [pk_un y]; exact h3 c (by omega)
end
theorem ud_R0 {nw op lk : Nat → Int32} (h1 : ∀ c, c < 8 → nw c = -1) (h2 : ∀ c, c < 4 → op c = -1) (h3 : ∀ c, c < 8 → lk c = -4) : ud_R 0 0 0 (fun _ => false) (fun _ => 0) 0 (-1) (-1) 0 0 0 (fun _ => 0) nw (fun _ => 0) (fun _ => 0) (fun _ => 0) (fun _ => 0) (fun _ => 0) (fun _ => 0) (fun _ => 0) (fun _ => 0) (fun _ => 0) op 0 0 (fun _ => 0) (fun _ => 0) (fun _ => 0) (fun _ => 0) (fun _ => 0) (fun _ => 0) (fun _ => 0) lk (fun _ => 0) := by
  have nf : ∀ {Q : Prop}, (false = true) → Q := fun q => absurd q (by decide)
  refine ⟨⟨nI_0.symm, nI_0.symm, nI_0.symm, by omega, by omega, fun _ _ => rfl, fun _ _ => rfl⟩, ⟨fun c q => nf q, fun c _ => b_0 c, fun c d q => nf q, fun c q => nf q, fun c q => nf q, ⟨?_, fun p _ => ?_⟩, ⟨ud_mx_none (fun c q => nf q), fun c q => nf q⟩, ⟨ud_mx_none (fun c q => nf q), fun c q => nf q⟩⟩, ⟨fun r hr => ?_, fun c q => nf q⟩, ⟨fun i hi => by omega, fun i hi => by omega, fun i hi => by omega, fun i j _ hj => by omega, fun i hi => by omega, fun r _ => rfl, fun i hi => by omega, fun r hr => Or.inl (h3 r hr)⟩, fun c q => nf q, fun i hi => by omega, fun x hx => Or.inl ⟨h2 x hx, fun i hi => by omega⟩, fun x y hx _ q => absurd (h2 x hx) q, fun p _ => ?_⟩
  · rw [ud_cn_none 24 (fun _ _ => rfl)]; exact nI_0.symm
  · have q : ud_cn (fun c => (fun _ : Nat => false) c && decide ((fun _ : Nat => (0 : Int32)) c = nI p)) 24 = 0 := ud_cn_none 24 (fun _ _ => rfl)
    rw [q]; exact nI_0.symm
  · rw [h1 r hr]
    exact ud_mx_none (fun c q => nf q.1)
  · rw [b_0]
    exact ⟨fun q => nf q, fun ⟨c, q, _⟩ => nf q⟩
theorem i_vc0 : wpX_init (fun u => wpY_init (fun v => i_Rel 0 u v)) := by
  refine ⟨9, ?_⟩
  refine ud_in111 (fun nw op h1 h2 => ?_) 9 0 (by omega) (by omega) (fun _ => 0) (fun c hc => by omega)
  refine ⟨9, ?_⟩
  refine ud_in84 (fun lk h3 => ?_) 9 0 (by omega) (by omega) (fun _ => 0) (fun c hc => by omega)
  exact ⟨_, _, 0, 0, ud_R0 h1 h2 h3⟩
/-! ===== what is owed, a method each ===== -/
theorem i_vc_change {k : Nat} {u : SX} {v : SY} (I : i_Rel k u v) (hk : k + 4 ≤ 2048) (v1 : Int32) (v2 : Int32) (v3 : Int32) : wpX_change (fun r u' => wpY_change (fun r' v' => r' = r ∧ i_Rel (k + 4) u' v') v v1 v2 v3) u v1 v2 v3 := by
  obtain ⟨f_used, f_first, f_last, f_count, f_taken, f_now, a_values, a_newest, a_forgotten, a_rowOf, a_oldValue, a_placeOf, a_olderOfRow, a_olderOfAll, a_newerOfAll, a_changesOf, a_numberOf, a_openPlace⟩ := u
  obtain ⟨f_size, f_time, a_row, a_value, a_before, a_who, a_number, a_kept, a_now, a_lock, a_gone⟩ := v
  obtain ⟨U, g, sz, t, h⟩ := I
  exact ud_change h hk v1 v2 v3
theorem i_vc_commit {k : Nat} {u : SX} {v : SY} (I : i_Rel k u v) (hk : k + 4 ≤ 2048) (v1 : Int32) : wpX_commit (fun r u' => wpY_commit (fun r' v' => r' = r ∧ i_Rel (k + 4) u' v') v v1) u v1 := by
  obtain ⟨f_used, f_first, f_last, f_count, f_taken, f_now, a_values, a_newest, a_forgotten, a_rowOf, a_oldValue, a_placeOf, a_olderOfRow, a_olderOfAll, a_newerOfAll, a_changesOf, a_numberOf, a_openPlace⟩ := u
  obtain ⟨f_size, f_time, a_row, a_value, a_before, a_who, a_number, a_kept, a_now, a_lock, a_gone⟩ := v
  obtain ⟨U, g, sz, t, h⟩ := I
  exact ud_commit h hk v1
theorem i_vc_rollback {k : Nat} {u : SX} {v : SY} (I : i_Rel k u v) (hk : k + 4 ≤ 2048) (v1 : Int32) : wpX_rollback (fun r u' => wpY_rollback (fun r' v' => r' = r ∧ i_Rel (k + 4) u' v') v v1) u v1 := by
  obtain ⟨f_used, f_first, f_last, f_count, f_taken, f_now, a_values, a_newest, a_forgotten, a_rowOf, a_oldValue, a_placeOf, a_olderOfRow, a_olderOfAll, a_newerOfAll, a_changesOf, a_numberOf, a_openPlace⟩ := u
  obtain ⟨f_size, f_time, a_row, a_value, a_before, a_who, a_number, a_kept, a_now, a_lock, a_gone⟩ := v
  obtain ⟨U, g, sz, t, h⟩ := I
  exact ud_rollback h hk v1
theorem i_vc_clock {k : Nat} {u : SX} {v : SY} (I : i_Rel k u v) (hk : k + 4 ≤ 2048) : wpX_clock (fun r => wpY_clock (fun r' => r' = r ∧ i_Rel (k + 4) u v) v) u := by
  have I2 := i_up I
  obtain ⟨f_used, f_first, f_last, f_count, f_taken, f_now, a_values, a_newest, a_forgotten, a_rowOf, a_oldValue, a_placeOf, a_olderOfRow, a_olderOfAll, a_newerOfAll, a_changesOf, a_numberOf, a_openPlace⟩ := u
  obtain ⟨f_size, f_time, a_row, a_value, a_before, a_who, a_number, a_kept, a_now, a_lock, a_gone⟩ := v
  obtain ⟨U, g, sz, t, h⟩ := I
  exact ud_q_clock h I2
theorem i_vc_read {k : Nat} {u : SX} {v : SY} (I : i_Rel k u v) (hk : k + 4 ≤ 2048) (v1 : Int32) (v2 : Int32) (v3 : Int32) : wpX_read (fun r => wpY_read (fun r' => r' = r ∧ i_Rel (k + 4) u v) v v1 v2 v3) u v1 v2 v3 := by
  have I2 := i_up I
  obtain ⟨f_used, f_first, f_last, f_count, f_taken, f_now, a_values, a_newest, a_forgotten, a_rowOf, a_oldValue, a_placeOf, a_olderOfRow, a_olderOfAll, a_newerOfAll, a_changesOf, a_numberOf, a_openPlace⟩ := u
  obtain ⟨f_size, f_time, a_row, a_value, a_before, a_who, a_number, a_kept, a_now, a_lock, a_gone⟩ := v
  obtain ⟨U, g, sz, t, h⟩ := I
  exact ud_q_read h hk I2 v1 v2 v3
theorem i_vc_raw {k : Nat} {u : SX} {v : SY} (I : i_Rel k u v) (hk : k + 4 ≤ 2048) (v1 : Int32) : wpX_raw (fun r => wpY_raw (fun r' => r' = r ∧ i_Rel (k + 4) u v) v v1) u v1 := by
  have I2 := i_up I
  obtain ⟨f_used, f_first, f_last, f_count, f_taken, f_now, a_values, a_newest, a_forgotten, a_rowOf, a_oldValue, a_placeOf, a_olderOfRow, a_olderOfAll, a_newerOfAll, a_changesOf, a_numberOf, a_openPlace⟩ := u
  obtain ⟨f_size, f_time, a_row, a_value, a_before, a_who, a_number, a_kept, a_now, a_lock, a_gone⟩ := v
  obtain ⟨U, g, sz, t, h⟩ := I
  exact ud_q_raw h I2 v1
theorem i_vc_holder {k : Nat} {u : SX} {v : SY} (I : i_Rel k u v) (hk : k + 4 ≤ 2048) (v1 : Int32) : wpX_holder (fun r => wpY_holder (fun r' => r' = r ∧ i_Rel (k + 4) u v) v v1) u v1 := by
  have I2 := i_up I
  obtain ⟨f_used, f_first, f_last, f_count, f_taken, f_now, a_values, a_newest, a_forgotten, a_rowOf, a_oldValue, a_placeOf, a_olderOfRow, a_olderOfAll, a_newerOfAll, a_changesOf, a_numberOf, a_openPlace⟩ := u
  obtain ⟨f_size, f_time, a_row, a_value, a_before, a_who, a_number, a_kept, a_now, a_lock, a_gone⟩ := v
  obtain ⟨U, g, sz, t, h⟩ := I
  exact ud_q_holder h I2 v1
theorem i_vc_locks {k : Nat} {u : SX} {v : SY} (I : i_Rel k u v) (hk : k + 4 ≤ 2048) (v1 : Int32) : wpX_locks (fun r => wpY_locks (fun r' => r' = r ∧ i_Rel (k + 4) u v) v v1) u v1 := by
  have I2 := i_up I
  obtain ⟨f_used, f_first, f_last, f_count, f_taken, f_now, a_values, a_newest, a_forgotten, a_rowOf, a_oldValue, a_placeOf, a_olderOfRow, a_olderOfAll, a_newerOfAll, a_changesOf, a_numberOf, a_openPlace⟩ := u
  obtain ⟨f_size, f_time, a_row, a_value, a_before, a_who, a_number, a_kept, a_now, a_lock, a_gone⟩ := v
  obtain ⟨U, g, sz, t, h⟩ := I
  exact ud_q_locks h I2 v1
theorem i_vc_remembered {k : Nat} {u : SX} {v : SY} (I : i_Rel k u v) (hk : k + 4 ≤ 2048) : wpX_remembered (fun r => wpY_remembered (fun r' => r' = r ∧ i_Rel (k + 4) u v) v) u := by
  have I2 := i_up I
  obtain ⟨f_used, f_first, f_last, f_count, f_taken, f_now, a_values, a_newest, a_forgotten, a_rowOf, a_oldValue, a_placeOf, a_olderOfRow, a_olderOfAll, a_newerOfAll, a_changesOf, a_numberOf, a_openPlace⟩ := u
  obtain ⟨f_size, f_time, a_row, a_value, a_before, a_who, a_number, a_kept, a_now, a_lock, a_gone⟩ := v
  obtain ⟨U, g, sz, t, h⟩ := I
  exact ud_q_remembered h hk I2
theorem i_vc_changes {k : Nat} {u : SX} {v : SY} (I : i_Rel k u v) (hk : k + 4 ≤ 2048) (v1 : Int32) : wpX_changes (fun r => wpY_changes (fun r' => r' = r ∧ i_Rel (k + 4) u v) v v1) u v1 := by
  have I2 := i_up I
  obtain ⟨f_used, f_first, f_last, f_count, f_taken, f_now, a_values, a_newest, a_forgotten, a_rowOf, a_oldValue, a_placeOf, a_olderOfRow, a_olderOfAll, a_newerOfAll, a_changesOf, a_numberOf, a_openPlace⟩ := u
  obtain ⟨f_size, f_time, a_row, a_value, a_before, a_who, a_number, a_kept, a_now, a_lock, a_gone⟩ := v
  obtain ⟨U, g, sz, t, h⟩ := I
  exact ud_q_changes h hk I2 v1
theorem i_vc_oldest {k : Nat} {u : SX} {v : SY} (I : i_Rel k u v) (hk : k + 4 ≤ 2048) (v1 : Int32) : wpX_oldest (fun r => wpY_oldest (fun r' => r' = r ∧ i_Rel (k + 4) u v) v v1) u v1 := by
  have I2 := i_up I
  obtain ⟨f_used, f_first, f_last, f_count, f_taken, f_now, a_values, a_newest, a_forgotten, a_rowOf, a_oldValue, a_placeOf, a_olderOfRow, a_olderOfAll, a_newerOfAll, a_changesOf, a_numberOf, a_openPlace⟩ := u
  obtain ⟨f_size, f_time, a_row, a_value, a_before, a_who, a_number, a_kept, a_now, a_lock, a_gone⟩ := v
  obtain ⟨U, g, sz, t, h⟩ := I
  exact ud_q_oldest h I2 v1
theorem i_vc_changedSince {k : Nat} {u : SX} {v : SY} (I : i_Rel k u v) (hk : k + 4 ≤ 2048) (v1 : Int32) : wpX_changedSince (fun r => wpY_changedSince (fun r' => r' = r ∧ i_Rel (k + 4) u v) v v1) u v1 := by
  have I2 := i_up I
  obtain ⟨f_used, f_first, f_last, f_count, f_taken, f_now, a_values, a_newest, a_forgotten, a_rowOf, a_oldValue, a_placeOf, a_olderOfRow, a_olderOfAll, a_newerOfAll, a_changesOf, a_numberOf, a_openPlace⟩ := u
  obtain ⟨f_size, f_time, a_row, a_value, a_before, a_who, a_number, a_kept, a_now, a_lock, a_gone⟩ := v
  obtain ⟨U, g, sz, t, h⟩ := I
  exact ud_q_changedSince h hk I2 v1
end
