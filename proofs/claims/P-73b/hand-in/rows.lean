section
/-! rows taken from the kit's rows to paste (pk_, ts_, wb_) -/
theorem pk_us {f : Nat → Int32} {k : Nat} {x : Int32} : upd f k x k = x := if_pos rfl
theorem pk_un {f : Nat → Int32} {k j : Nat} {x : Int32} (h : j ≠ k) : upd f k x j = f j := if_neg h
theorem pk_uLs {f : Nat → Int64} {k : Nat} {x : Int64} : vp_updL f k x k = x := if_pos rfl
theorem pk_uLn {f : Nat → Int64} {k j : Nat} {x : Int64} (h : j ≠ k) : vp_updL f k x j = f j := if_neg h
theorem pk_ix (x : Int32) {n : Nat} (hn : n < 2 ^ 31) : x < 0 ∨ nI n ≤ x ∨ ∃ j : Nat, j < n ∧ x = nI j := by
  by_cases h : x < 0
  · exact Or.inl h
  · obtain ⟨j, hj, rfl⟩ := nI_of h
    by_cases h2 : j < n
    · exact Or.inr (Or.inr ⟨j, h2, rfl⟩)
    · exact Or.inr (Or.inl (nI_le (by omega) hj))
theorem pk_vs (z : Int32) : vp_nar .short z.toInt16.toInt32 = z.toInt16.toInt32 := by rw [vp_nar_short]; simp
theorem ts_bit {w : Int64} {s : UInt64} {j : Nat} (hj : j < 64) (hs : s.toNat = j) : ((w.toUInt64 >>> s).toInt64 &&& 1) = 0 ↔ w.toBitVec.getLsbD j = false := by
  have e : (w.toUInt64 >>> s).toInt64.toBitVec = w.toBitVec >>> j := by
    apply BitVec.eq_of_toNat_eq
    show (w.toUInt64 >>> s).toNat = _
    rw [UInt64.toNat_shiftRight, hs, Nat.mod_eq_of_lt hj, BitVec.toNat_ushiftRight]
    rfl
  rw [← Int64.toBitVec_inj, Int64.toBitVec_and, e]
  show w.toBitVec >>> j &&& 1#64 = 0#64 ↔ _
  constructor
  · intro h
    have t := congrArg (fun x => x.getLsbD 0) h
    simpa using t
  · intro h
    apply BitVec.eq_of_getLsbD_eq
    intro i hi
    cases i with
    | zero => simp [h]
    | succ i => simp
theorem wb_cu : ∀ k, k < 64 → ((nI k).toInt64.toUInt64 &&& Int64.toUInt64 63) = UInt64.ofNat k := by decide +kernel
/-! own rows: the bits of a long -/
/-- bit j of a long -/
def ac_b (w : Int64) (j : Nat) : Bool := w.toBitVec.getLsbD j
/-- a boolean as an int -/
def ac_z (b : Bool) : Int32 := cond b 1 0
/-- the long with bit k alone, as it is printed -/
def ac_p (k : Nat) : Int64 := (1 : Int64) <<< ((nI k).toInt64 &&& 63)
theorem ac_b0 (j : Nat) : ac_b 0 j = false := by
  show (0#64).getLsbD j = false
  simp
theorem ac_or (x y : Int64) (j : Nat) : ac_b (x ||| y) j = (ac_b x j || ac_b y j) := by
  show (x ||| y).toBitVec.getLsbD j = (x.toBitVec.getLsbD j || y.toBitVec.getLsbD j)
  rw [Int64.toBitVec_or, BitVec.getLsbD_or]
theorem ac_pw : ∀ k, k < 64 → ((1 : Int64) <<< ((nI k).toInt64 &&& 63)).toBitVec = BitVec.twoPow 64 k := by decide +kernel
theorem ac_one {k : Nat} (hk : k < 64) (j : Nat) : ac_b (ac_p k) j = decide (k = j) := by
  show ((1 : Int64) <<< ((nI k).toInt64 &&& 63)).toBitVec.getLsbD j = _
  rw [ac_pw k hk, BitVec.getLsbD_twoPow]
  by_cases h : k = j
  · subst h; simp [hk]
  · simp [h]
theorem ac_ix : ∀ a, a < 8 → ∀ b, b < 8 → (nI a <<< ((3 : Int32) &&& 31)) ||| nI b = nI (a * 8 + b) := by decide +kernel
theorem ac_uN {k : Nat} (h : k < 64) : (UInt64.ofNat k).toNat = k := by
  show (BitVec.ofNat 64 k).toNat = k
  rw [BitVec.toNat_ofNat, Nat.mod_eq_of_lt (by omega)]
theorem ac_bit {post : Int32 → Prop} {w : Int64} {k : Nat} (hk : k < 64) (h : post (ac_z (ac_b w k))) : wpY_bit post w (nI k) := by
  have e := ts_bit (w := w) (s := (nI k).toInt64.toUInt64 &&& Int64.toUInt64 63) (j := k) hk (by rw [wb_cu k hk, ac_uN hk])
  cases hb : ac_b w k
  · rw [hb] at h
    exact br_t (e.mpr hb) h
  · rw [hb] at h
    refine br_f (fun z => ?_) h
    have := e.mp z
    have hb' : w.toBitVec.getLsbD k = true := hb
    rw [this] at hb'
    exact absurd hb' (by decide)
theorem ac_s16 : ∀ k, k < 8 → (nI k).toInt16.toInt32 = nI k := by decide +kernel
/-- an index argument: -1, out of range, or a number below n -/
theorem ac_arg (x : Int32) {n : Nat} (hn : n ≤ 8) : x = -1 ∨ (x ≠ -1 ∧ (x < 0 ∨ nI n ≤ x) ∧ (x < -1 ∨ (¬ x < -1 ∧ ¬ x < nI n))) ∨ ∃ j : Nat, j < n ∧ x = nI j := by
  have m1 : (-1 : Int32).toInt = -1 := by decide
  have m0 : (0 : Int32).toInt = 0 := by decide
  have mn : (nI n).toInt = (n : Int) := nI_toInt (by omega)
  rcases pk_ix x (n := n) (by omega) with h | h | h
  · by_cases e : x = -1
    · exact Or.inl e
    · refine Or.inr (Or.inl ⟨e, Or.inl h, Or.inl ?_⟩)
      have e' : ¬ x.toInt = (-1 : Int32).toInt := fun z => e (Int32.toInt_inj.mp z)
      rw [Int32.lt_iff_toInt_lt] at h ⊢
      rw [m0] at h
      rw [m1] at e' ⊢
      omega
  · refine Or.inr (Or.inl ⟨?_, Or.inr h, Or.inr ⟨?_, ?_⟩⟩)
    · rintro rfl
      rw [Int32.le_iff_toInt_le, m1, mn] at h
      omega
    · rw [Int32.le_iff_toInt_le, mn] at h
      rw [Int32.lt_iff_toInt_lt, m1]
      omega
    · rw [Int32.le_iff_toInt_le] at h
      rw [Int32.lt_iff_toInt_lt]
      omega
  · exact Or.inr (Or.inr h)
theorem ac_m1lt (n : Nat) (hn : n ≤ 8) : (-1 : Int32) < nI n := by
  have m1 : (-1 : Int32).toInt = -1 := by decide
  rw [Int32.lt_iff_toInt_lt, m1, nI_toInt (by omega)]
  omega
theorem ac_nlt (n : Nat) (hn : n ≤ 8) : ¬ nI n < (-1 : Int32) := by
  have m1 : (-1 : Int32).toInt = -1 := by decide
  rw [Int32.lt_iff_toInt_lt, m1, nI_toInt (by omega)]
  omega
theorem ac_nm1 (n : Nat) (hn : n ≤ 8) : ¬ nI n = (-1 : Int32) := by
  intro h
  have m1 : (-1 : Int32).toInt = -1 := by decide
  have := congrArg Int32.toInt h
  rw [m1, nI_toInt (by omega)] at this
  omega
end
section
/-! the facts that the two tables share, and the small walks -/
/-- superOf points below; up, upEq are the closures; same is the matrix of equal packages -/
def ac_R1 (n : Nat) (sup : Nat → Int32) (up ue : Nat → Int64) : Prop := ∀ i, i < n → (sup i = -1 ∧ up i = 0) ∨ ∃ j, j < i ∧ sup i = nI j ∧ up i = ue j
def ac_R2 (n : Nat) (up ue : Nat → Int64) : Prop := ∀ i, i < n → ue i = up i ||| ac_p i
def ac_R3 (n : Nat) (pk : Nat → Int32) (w : Int64) : Prop := ∀ a b, a < 8 → b < 8 → (ac_b w (a * 8 + b) = true ↔ (a < n ∧ b < n ∧ pk a = pk b))
section
variable {c n : Nat} {sup fl pk nh : Nat → Int32} {same : Int64} {up ue : Nat → Int64}
theorem ac_xbad {post : Int32 → Prop} {p : Int32} (h : p < 0 ∨ nI n ≤ p) (hp : post 0) : wpX_valid post (nI c, nI n, sup, fl, pk, nh) p := by
  by_cases h0 : p < 0
  · exact br_t h0 hp
  · exact br_f h0 (br_t (h.resolve_left h0) hp)
theorem ac_xok {post : Int32 → Prop} {i : Nat} (hn : n ≤ 8) (hi : i < n) (hp : post 1) : wpX_valid post (nI c, nI n, sup, fl, pk, nh) (nI i) :=
  br_f (nI_pos (by omega)) (br_f (nI_ge hi (by omega)) hp)
theorem ac_ybad {post : Int32 → Prop} {p : Int32} (h : p < 0 ∨ nI n ≤ p) (hp : post 0) : wpY_in post (nI c, nI n, same, fl, pk, nh, up, ue) p := by
  by_cases h0 : p < 0
  · exact br_t h0 hp
  · exact br_f h0 (br_t (h.resolve_left h0) hp)
theorem ac_yok {post : Int32 → Prop} {i : Nat} (hn : n ≤ 8) (hi : i < n) (hp : post 1) : wpY_in post (nI c, nI n, same, fl, pk, nh, up, ue) (nI i) :=
  br_f (nI_pos (by omega)) (br_f (nI_ge hi (by omega)) hp)
theorem ac_at {f : Nat → Int32} {i : Nat} (h : i < 8) : f (nI i).toNatClampNeg = f i := by rw [nI_clamp (by omega)]
theorem ac_atL {f : Nat → Int64} {i : Nat} (h : i < 8) : f (nI i).toNatClampNeg = f i := by rw [nI_clamp (by omega)]
theorem ac_ue (R2 : ac_R2 n up ue) {i : Nat} (hi : i < n) (hn : n ≤ 8) (b : Nat) : ac_b (ue i) b = (ac_b (up i) b || decide (i = b)) := by
  rw [R2 i hi, ac_or, ac_one (by omega)]
theorem ac_xsubL (hn : n ≤ 8) (R1 : ac_R1 n sup up ue) (R2 : ac_R2 n up ue) {post : Int32 → Prop} {b : Nat} (hb : b < 8) : ∀ (m i s : Nat), i < m → i < n → i + s ≤ 7 → post (ac_z (ac_b (up i) b)) → wX_isSubclass_28 post (nI b) (nI c) (nI n) sup fl pk nh m (sup i) (nI s) := by
  intro m
  induction m with
  | zero => intro i s h; omega
  | succ m ih =>
    intro i s him hin his hp
    rcases R1 i hin with ⟨e, eu⟩ | ⟨j, hj, e, eu⟩
    · rw [eu, ac_b0] at hp
      rw [e]
      exact br_t (by decide) hp
    · rw [eu, ac_ue R2 (by omega) hn] at hp
      rw [e]
      refine br_f (nI_pos (by omega)) (br_f (nI_ge (a := j) (b := n) (by omega) (by omega)) (br_f (nI_ge (a := s) (b := 8) (by omega) (by omega)) ?_))
      by_cases hjb : j = b
      · subst hjb
        rw [decide_eq_true rfl, Bool.or_true] at hp
        exact br_t rfl hp
      · rw [decide_eq_false hjb, Bool.or_false] at hp
        refine br_f (fun h => hjb ((nI_eq (by omega) (by omega)).mp h)) ⟨vp_in_nI (by omega) (by omega), nm_r (e' := sup j) (ac_at (by omega)) (nm_r (e' := nI (s + 1)) (nI_1 s) ?_)⟩
        exact ih j (s + 1) (by omega) (by omega) (by omega) hp
theorem ac_xsub (hn : n ≤ 8) (R1 : ac_R1 n sup up ue) (R2 : ac_R2 n up ue) {post : Int32 → Prop} {a b : Nat} (ha : a < n) (hb : b < n) (hp : post (ac_z (ac_b (up a) b))) : wpX_isSubclass post (nI c, nI n, sup, fl, pk, nh) (nI a) (nI b) := by
  unfold wpX_isSubclass
  dsimp only
  refine ac_xok hn ha (br_f (by decide) ?_)
  refine ac_xok hn hb (br_f (by decide) ?_)
  exact ⟨vp_in_nI (by omega) (by omega), nm_r (e' := sup a) (ac_at (by omega)) ⟨8, ac_xsubL hn R1 R2 (by omega) 8 a 0 (by omega) ha (by omega) hp⟩⟩
theorem ac_xsupL (hn : n ≤ 8) (R1 : ac_R1 n sup up ue) (R2 : ac_R2 n up ue) {post : Int64 → Prop} : ∀ (m i s : Nat) (w : Int64), i < m → i < n → i + s ≤ 7 → post (w ||| up i) → wX_supers_23 post (nI c) (nI n) sup fl pk nh m w (sup i) (nI s) := by
  intro m
  induction m with
  | zero => intro i s w h; omega
  | succ m ih =>
    intro i s w him hin his hp
    rcases R1 i hin with ⟨e, eu⟩ | ⟨j, hj, e, eu⟩
    · rw [eu, Int64.or_zero] at hp
      rw [e]
      exact br_t (by decide) hp
    · rw [eu, R2 j (by omega), Int64.or_comm (up j), ← Int64.or_assoc] at hp
      rw [e]
      refine br_f (nI_pos (by omega)) (br_f (nI_ge (a := j) (b := n) (by omega) (by omega)) (br_f (nI_ge (a := s) (b := 8) (by omega) (by omega)) (nm_e ⟨vp_in_nI (by omega) (by omega), nm_r (e' := sup j) (ac_at (by omega)) (nm_r (e' := nI (s + 1)) (nI_1 s) ?_)⟩)))
      exact ih j (s + 1) _ (by omega) (by omega) (by omega) hp
theorem ac_xsup (hn : n ≤ 8) (R1 : ac_R1 n sup up ue) (R2 : ac_R2 n up ue) {post : Int64 → Prop} {a : Nat} (ha : a < n) (hp : post (up a)) : wpX_supers post (nI c, nI n, sup, fl, pk, nh) (nI a) := by
  unfold wpX_supers
  dsimp only
  refine ac_xok hn ha (br_f (by decide) ?_)
  refine ⟨vp_in_nI (by omega) (by omega), nm_r (e' := sup a) (ac_at (by omega)) ⟨8, ac_xsupL hn R1 R2 8 a 0 0 (by omega) ha (by omega) ?_⟩⟩
  rw [Int64.zero_or]
  exact hp
/-- the package matrix is asked -/
theorem ac_yPk (hn : n ≤ 8) (R3 : ac_R3 n pk same) {post : Int32 → Prop} {a b : Nat} (ha : a < n) (hb : b < n) (hp : post (ac_z (decide (pk a = pk b)))) : wpY_bit post same ((nI a <<< ((3 : Int32) &&& 31)) ||| nI b) := by
  rw [ac_ix a (by omega) b (by omega)]
  refine ac_bit (by omega) ?_
  have e : ac_b same (a * 8 + b) = decide (pk a = pk b) := by
    rw [Bool.eq_iff_iff, R3 a b (by omega) (by omega), decide_eq_true_iff]
    exact ⟨fun h => h.2.2, fun h => ⟨ha, hb, h⟩⟩
  rw [e]
  exact hp
/-- one answer for both: isSubclass -/
theorem ac_sub (hn : n ≤ 8) (R1 : ac_R1 n sup up ue) (R2 : ac_R2 n up ue) (p q : Int32) : ∃ r : Int32, (∀ post : Int32 → Prop, post r → wpX_isSubclass post (nI c, nI n, sup, fl, pk, nh) p q) ∧ (∀ post : Int32 → Prop, post r → wpY_isSubclass post (nI c, nI n, same, fl, pk, nh, up, ue) p q) := by
  by_cases hp : p < 0 ∨ nI n ≤ p
  · refine ⟨0, fun post h => ?_, fun post h => ?_⟩
    · unfold wpX_isSubclass
      dsimp only
      exact ac_xbad hp (br_t rfl h)
    · unfold wpY_isSubclass
      dsimp only
      exact ac_ybad hp (br_t rfl h)
  · obtain ⟨a, ha, rfl⟩ := ((pk_ix p (n := n) (by omega)).resolve_left (fun z => hp (Or.inl z))).resolve_left (fun z => hp (Or.inr z))
    by_cases hq : q < 0 ∨ nI n ≤ q
    · refine ⟨0, fun post h => ?_, fun post h => ?_⟩
      · unfold wpX_isSubclass
        dsimp only
        exact ac_xok hn ha (br_f (by decide) (ac_xbad hq (br_t rfl h)))
      · unfold wpY_isSubclass
        dsimp only
        exact ac_yok hn ha (br_f (by decide) (ac_ybad hq (br_t rfl h)))
    · obtain ⟨b, hb, rfl⟩ := ((pk_ix q (n := n) (by omega)).resolve_left (fun z => hq (Or.inl z))).resolve_left (fun z => hq (Or.inr z))
      refine ⟨ac_z (ac_b (up a) b), fun _ h => ac_xsub hn R1 R2 ha hb h, fun post h => ?_⟩
      unfold wpY_isSubclass
      dsimp only
      refine ac_yok hn ha (br_f (by decide) ?_)
      refine ac_yok hn hb (br_f (by decide) ?_)
      refine ⟨vp_in_nI (by omega) (by omega), ?_⟩
      rw [ac_atL (f := up) (i := a) (by omega)]
      refine ac_bit (by omega) ?_
      cases hb : ac_b (up a) b <;> rw [hb] at h
      · exact br_t rfl h
      · exact br_f (by decide) h
/-- one answer for both: classAccessible -/
theorem ac_ca (hn : n ≤ 8) (R3 : ac_R3 n pk same) (p q : Int32) : ∃ r : Int32, (∀ post : Int32 → Prop, post r → wpX_classAccessible post (nI c, nI n, sup, fl, pk, nh) p q) ∧ (∀ post : Int32 → Prop, post r → wpY_classAccessible post (nI c, nI n, same, fl, pk, nh, up, ue) p q) := by
  by_cases hp : p < 0 ∨ nI n ≤ p
  · refine ⟨0, fun post h => ?_, fun post h => ?_⟩
    · unfold wpX_classAccessible
      dsimp only
      exact ac_xbad hp (br_t rfl h)
    · unfold wpY_classAccessible
      dsimp only
      exact ac_ybad hp (br_t rfl h)
  · obtain ⟨a, ha, rfl⟩ := ((pk_ix p (n := n) (by omega)).resolve_left (fun z => hp (Or.inl z))).resolve_left (fun z => hp (Or.inr z))
    by_cases hq : q < 0 ∨ nI n ≤ q
    · refine ⟨0, fun post h => ?_, fun post h => ?_⟩
      · unfold wpX_classAccessible
        dsimp only
        exact ac_xok hn ha (br_f (by decide) (ac_xbad hq (br_t rfl h)))
      · unfold wpY_classAccessible
        dsimp only
        exact ac_yok hn ha (br_f (by decide) (ac_ybad hq (br_t rfl h)))
    · obtain ⟨b, hb, rfl⟩ := ((pk_ix q (n := n) (by omega)).resolve_left (fun z => hq (Or.inl z))).resolve_left (fun z => hq (Or.inr z))
      have va : vp_in (nI a) 8 := vp_in_nI (by omega) (by omega)
      have vb : vp_in (nI b) 8 := vp_in_nI (by omega) (by omega)
      by_cases hf : (fl (nI a).toNatClampNeg) &&& 1 = 0
      · refine ⟨ac_z (decide (pk a = pk b)), fun post h => ?_, fun post h => ?_⟩
        · unfold wpX_classAccessible
          dsimp only
          refine ac_xok hn ha (br_f (by decide) ?_)
          refine ac_xok hn hb (br_f (by decide) ?_)
          refine ⟨va, br_t hf ⟨va, vb, ?_⟩⟩
          rw [ac_at (f := pk) (i := a) (by omega), ac_at (f := pk) (i := b) (by omega)]
          by_cases e : pk a = pk b
          · rw [decide_eq_true e] at h
            exact br_t e h
          · rw [decide_eq_false e] at h
            exact br_f e h
        · unfold wpY_classAccessible
          dsimp only
          refine ac_yok hn ha (br_f (by decide) ?_)
          refine ac_yok hn hb (br_f (by decide) ?_)
          refine ⟨va, br_t hf ?_⟩
          refine ac_yPk hn R3 ha hb ?_
          by_cases e : pk a = pk b
          · rw [decide_eq_true e] at h ⊢
            exact br_f (by decide) h
          · rw [decide_eq_false e] at h ⊢
            exact br_t rfl h
      · refine ⟨1, fun post h => ?_, fun post h => ?_⟩
        · unfold wpX_classAccessible
          dsimp only
          exact ac_xok hn ha (br_f (by decide) (ac_xok hn hb (br_f (by decide) ⟨va, br_f hf h⟩)))
        · unfold wpY_classAccessible
          dsimp only
          exact ac_yok hn ha (br_f (by decide) (ac_yok hn hb (br_f (by decide) ⟨va, br_f hf h⟩)))
end
end
section
/-! memberAccessible: each side gives one boolean word of the same eleven facts -/
section
variable {c n : Nat} {sup fl pk nh : Nat → Int32} {same : Int64} {up ue : Nat → Int64}
/-- X behind the flags: private members -/
theorem ac_x178 (hn : n ≤ 8) {post : Int32 → Prop} {o d : Nat} (ho : o < n) (hd : d < n) (prv : Bool) (hp : post (ac_z (prv && decide (nh o = nh d)))) : wX_memberAccessible_178 post (nI o) (nI d) (ac_z prv) (nI c) (nI n) sup fl pk nh := by
  unfold wX_memberAccessible_178
  cases prv
  · exact br_t rfl hp
  · refine br_f (by decide) ⟨vp_in_nI (by omega) (by omega), vp_in_nI (by omega) (by omega), ?_⟩
    rw [ac_at (f := nh) (i := o) (by omega), ac_at (f := nh) (i := d) (by omega)]
    by_cases e : nh o = nh d
    · rw [decide_eq_true e] at hp
      exact br_t e hp
    · rw [decide_eq_false e] at hp
      exact br_f e hp
theorem ac_x161 (hn : n ≤ 8) {post : Int32 → Prop} {o d : Nat} (ho : o < n) (hd : d < n) (prv : Bool) (hp : post (ac_z (decide (pk o = pk d) || (prv && decide (nh o = nh d))))) : wX_memberAccessible_161 post (nI o) (nI d) (ac_z prv) (nI c) (nI n) sup fl pk nh := by
  unfold wX_memberAccessible_161
  refine ⟨vp_in_nI (by omega) (by omega), vp_in_nI (by omega) (by omega), ?_⟩
  rw [ac_at (f := pk) (i := o) (by omega), ac_at (f := pk) (i := d) (by omega)]
  by_cases e : pk o = pk d
  · rw [decide_eq_true e, Bool.true_or] at hp
    exact br_t e hp
  · rw [decide_eq_false e, Bool.false_or] at hp
    exact br_f e (ac_x178 hn ho hd prv hp)
theorem ac_x141 (hn : n ≤ 8) {post : Int32 → Prop} {o d : Nat} (ho : o < n) (hd : d < n) (prv prt : Bool) (hp : post (ac_z (((prt || !prv) && decide (pk o = pk d)) || (prv && decide (nh o = nh d))))) : wX_memberAccessible_141 post (nI o) (nI d) 0 (ac_z prv) (ac_z prt) (nI c) (nI n) sup fl pk nh := by
  unfold wX_memberAccessible_141
  cases prt
  · cases prv
    · refine br_t rfl (br_t rfl (br_t rfl (br_t rfl (ac_x161 hn ho hd false ?_))))
      exact hp
    · refine br_t rfl (br_t rfl (br_t rfl (br_f (by decide) (ac_x178 hn ho hd true ?_))))
      exact hp
  · refine br_f (by decide) (ac_x161 hn ho hd prv ?_)
    exact hp
theorem ac_x106 (hn : n ≤ 8) (R1 : ac_R1 n sup up ue) (R2 : ac_R2 n up ue) {post : Int32 → Prop} {o d t : Nat} (ho : o < n) (hd : d < n) (ht : t < n) (prv prt sta : Bool) (hp : post (ac_z ((sta || (decide (t = d) || (ac_b (up t) d || ac_b (up d) t))) || (((prt || !prv) && decide (pk o = pk d)) || (prv && decide (nh o = nh d)))))) : wX_memberAccessible_106 post (nI o) (nI d) (nI t) 0 (ac_z prv) (ac_z prt) (ac_z sta) (nI c) (nI n) sup fl pk nh := by
  unfold wX_memberAccessible_106
  cases sta
  · refine br_t rfl ?_
    by_cases e : t = d
    · rw [decide_eq_true e, Bool.true_or, Bool.or_true, Bool.true_or] at hp
      exact br_t (congrArg nI e) hp
    · rw [decide_eq_false e, Bool.false_or, Bool.false_or] at hp
      refine br_f (fun h => e ((nI_eq (by omega) (by omega)).mp h)) ?_
      refine ac_xsub hn R1 R2 ht hd ?_
      cases h1 : ac_b (up t) d
      · rw [h1, Bool.false_or] at hp
        refine br_t rfl ?_
        refine ac_xsub hn R1 R2 hd ht ?_
        cases h2 : ac_b (up d) t
        · rw [h2, Bool.false_or] at hp
          exact br_t rfl (ac_x141 hn ho hd prv prt hp)
        · rw [h2, Bool.true_or] at hp
          exact br_f (by decide) hp
      · rw [h1, Bool.true_or, Bool.true_or] at hp
        exact br_f (by decide) hp
  · rw [Bool.true_or, Bool.true_or] at hp
    exact br_f (by decide) hp
theorem ac_x78 (hn : n ≤ 8) (R1 : ac_R1 n sup up ue) (R2 : ac_R2 n up ue) {post : Int32 → Prop} {o d t : Nat} (ho : o < n) (hd : d < n) (ht : t < n) (pub prv prt sta : Bool) (hp : post (ac_z (pub || ((prt && ((decide (d = o) || ac_b (up d) o) && (sta || (decide (t = d) || (ac_b (up t) d || ac_b (up d) t))))) || (((prt || !prv) && decide (pk o = pk d)) || (prv && decide (nh o = nh d))))))) : wX_memberAccessible_78 post (nI o) (nI d) (nI t) (ac_z pub) (ac_z prv) (ac_z prt) (ac_z sta) (nI c) (nI n) sup fl pk nh := by
  unfold wX_memberAccessible_78
  cases pub
  · refine br_t rfl ?_
    rw [Bool.false_or] at hp
    cases prt
    · refine br_t rfl (ac_x141 hn ho hd prv false ?_)
      rw [Bool.false_and, Bool.false_or] at hp
      exact hp
    · refine br_f (by decide) ?_
      rw [Bool.true_and] at hp
      by_cases e : d = o
      · rw [decide_eq_true e, Bool.true_or, Bool.true_and] at hp
        exact br_t (congrArg nI e) (ac_x106 hn R1 R2 ho hd ht prv true sta hp)
      · rw [decide_eq_false e, Bool.false_or] at hp
        refine br_f (fun h => e ((nI_eq (by omega) (by omega)).mp h)) ?_
        refine ac_xsub hn R1 R2 hd ho ?_
        cases h1 : ac_b (up d) o
        · rw [h1, Bool.false_and, Bool.false_or] at hp
          exact br_t rfl (ac_x141 hn ho hd prv true hp)
        · rw [h1, Bool.true_and] at hp
          exact br_f (by decide) (ac_x106 hn R1 R2 ho hd ht prv true sta hp)
  · rw [Bool.true_or] at hp
    exact br_f (by decide) hp
/-- a flag as a boolean -/
def ac_f (m k : Int32) : Bool := !(decide (m &&& k = 0))
theorem ac_fl {m k : Int32} {A B : Prop} (P : Int32 → Prop) (h : P (ac_z (ac_f m k))) (ha : P 0 → A) (hb : P 1 → B) : (m &&& k = 0 → A) ∧ (¬ m &&& k = 0 → B) := by
  by_cases e : m &&& k = 0
  · have z : ac_f m k = false := by unfold ac_f; rw [decide_eq_true e]; rfl
    rw [z] at h
    exact br_t e (ha h)
  · have z : ac_f m k = true := by unfold ac_f; rw [decide_eq_false e]; rfl
    rw [z] at h
    exact br_f e (hb h)
/-- Y's last disjunction -/
theorem ac_y209 {post : Int32 → Prop} (b1 b2 b3 b4 : Bool) (hp : post (ac_z (b1 || (b2 || (b3 || b4))))) : wY_memberAccessible_209 post (ac_z b1) (ac_z b2) (ac_z b3) (ac_z b4) (nI c) (nI n) same fl pk nh up ue := by
  unfold wY_memberAccessible_209
  cases b1
  · cases b2
    · cases b3
      · cases b4
        · exact br_t rfl (br_t rfl (br_t rfl (br_t rfl hp)))
        · exact br_t rfl (br_t rfl (br_t rfl (br_f (by decide) hp)))
      · exact br_t rfl (br_t rfl (br_f (by decide) hp))
    · exact br_t rfl (br_f (by decide) hp)
  · exact br_f (by decide) hp
theorem ac_y182 (hn : n ≤ 8) {post : Int32 → Prop} {o d : Nat} (ho : o < n) (hd : d < n) (prv b1 b2 b3 : Bool) (hp : post (ac_z (b1 || (b2 || (b3 || (prv && decide (nh o = nh d))))))) : wY_memberAccessible_182 post (nI o) (nI d) (ac_z prv) (ac_z b1) (ac_z b2) (ac_z b3) (nI c) (nI n) same fl pk nh up ue := by
  unfold wY_memberAccessible_182
  cases prv
  · exact br_t rfl (ac_y209 b1 b2 b3 false hp)
  · refine br_f (by decide) ⟨vp_in_nI (by omega) (by omega), vp_in_nI (by omega) (by omega), ?_⟩
    rw [ac_at (f := nh) (i := o) (by omega), ac_at (f := nh) (i := d) (by omega)]
    by_cases e : nh o = nh d
    · rw [decide_eq_true e] at hp
      exact br_t e (ac_y209 b1 b2 b3 true hp)
    · rw [decide_eq_false e] at hp
      exact br_f e (ac_y209 b1 b2 b3 false hp)
theorem ac_y162 (hn : n ≤ 8) (R3 : ac_R3 n pk same) {post : Int32 → Prop} {o d : Nat} (ho : o < n) (hd : d < n) (prv b1 b2 : Bool) (hp : post (ac_z (b1 || (b2 || (decide (pk o = pk d) || (prv && decide (nh o = nh d))))))) : wY_memberAccessible_162 post (nI o) (nI d) (ac_z prv) (ac_z b1) (ac_z b2) (nI c) (nI n) same fl pk nh up ue := by
  unfold wY_memberAccessible_162
  refine ac_yPk hn R3 ho hd ?_
  by_cases e : pk o = pk d
  · rw [decide_eq_true e] at hp ⊢
    exact br_f (by decide) (ac_y182 hn ho hd prv b1 b2 true hp)
  · rw [decide_eq_false e] at hp ⊢
    exact br_t rfl (ac_y182 hn ho hd prv b1 b2 false hp)
theorem ac_y140 (hn : n ≤ 8) (R3 : ac_R3 n pk same) {post : Int32 → Prop} {o d : Nat} (ho : o < n) (hd : d < n) (pub prv prt b1 b2 : Bool) (hp : post (ac_z (b1 || (b2 || (((prt || (!pub && !prv)) && decide (pk o = pk d)) || (prv && decide (nh o = nh d))))))) : wY_memberAccessible_140 post (nI o) (nI d) (ac_z pub) (ac_z prv) (ac_z prt) (ac_z b1) (ac_z b2) (nI c) (nI n) same fl pk nh up ue := by
  unfold wY_memberAccessible_140
  cases prt
  · refine br_t rfl ?_
    cases pub
    · refine br_t rfl (br_t rfl ?_)
      cases prv
      · exact br_t rfl (ac_y162 hn R3 ho hd false b1 b2 hp)
      · exact br_f (by decide) (ac_y182 hn ho hd true b1 b2 false hp)
    · exact br_f (by decide) (ac_y182 hn ho hd prv b1 b2 false hp)
  · exact br_f (by decide) (ac_y162 hn R3 ho hd prv b1 b2 hp)
theorem ac_y78 (hn : n ≤ 8) (R3 : ac_R3 n pk same) {post : Int32 → Prop} {o d t : Nat} (ho : o < n) (hd : d < n) (ht : t < n) (pub prv prt sta : Bool) (hp : post (ac_z (pub || ((prt && (ac_b (ue d) o && (sta || (ac_b (ue t) d || ac_b (up d) t)))) || (((prt || (!pub && !prv)) && decide (pk o = pk d)) || (prv && decide (nh o = nh d))))))) : wY_memberAccessible_78 post (nI o) (nI d) (nI t) (ac_z pub) (ac_z prv) (ac_z prt) (ac_z sta) (nI c) (nI n) same fl pk nh up ue := by
  unfold wY_memberAccessible_78
  have vd : vp_in (nI d) 8 := vp_in_nI (by omega) (by omega)
  have vt : vp_in (nI t) 8 := vp_in_nI (by omega) (by omega)
  cases prt
  · exact br_t rfl (ac_y140 hn R3 ho hd pub prv false pub false hp)
  · refine br_f (by decide) ⟨vd, ?_⟩
    rw [ac_atL (f := ue) (i := d) (by omega)]
    refine ac_bit (by omega) ?_
    cases h1 : ac_b (ue d) o <;> rw [h1] at hp
    · exact br_t rfl (ac_y140 hn R3 ho hd pub prv true pub false hp)
    · refine br_f (by decide) ?_
      cases sta
      · refine br_t rfl ⟨vt, ?_⟩
        rw [ac_atL (f := ue) (i := t) (by omega)]
        refine ac_bit (by omega) ?_
        cases h2 : ac_b (ue t) d <;> rw [h2] at hp
        · refine br_t rfl ⟨vd, ?_⟩
          rw [ac_atL (f := up) (i := d) (by omega)]
          refine ac_bit (by omega) ?_
          cases h3 : ac_b (up d) t <;> rw [h3] at hp
          · exact br_t rfl (ac_y140 hn R3 ho hd pub prv true pub false hp)
          · exact br_f (by decide) (ac_y140 hn R3 ho hd pub prv true pub true hp)
        · exact br_f (by decide) (ac_y140 hn R3 ho hd pub prv true pub true hp)
      · exact br_f (by decide) (ac_y140 hn R3 ho hd pub prv true pub true hp)
theorem ac_word : ∀ pub prv prt sta e1 s1 e2 s2 s3 p h : Bool, (pub || ((prt && ((s1 || e1) && (sta || ((s2 || e2) || s3)))) || (((prt || (!pub && !prv)) && p) || (prv && h)))) = (pub || ((prt && ((e1 || s1) && (sta || (e2 || (s2 || s3))))) || (((prt || !prv) && p) || (prv && h)))) := by
  intro pub prv prt sta e1 s1 e2 s2 s3 p h
  cases pub
  · rw [Bool.or_comm s1 e1, Bool.or_comm s2 e2, Bool.or_assoc e2 s2 s3]; rfl
  · rfl
/-- one answer for both: memberAccessible -/
theorem ac_ma (hn : n ≤ 8) (R1 : ac_R1 n sup up ue) (R2 : ac_R2 n up ue) (R3 : ac_R3 n pk same) (m p q s : Int32) : ∃ r : Int32, (∀ post : Int32 → Prop, post r → wpX_memberAccessible post (nI c, nI n, sup, fl, pk, nh) m p q s) ∧ (∀ post : Int32 → Prop, post r → wpY_memberAccessible post (nI c, nI n, same, fl, pk, nh, up, ue) m p q s) := by
  by_cases hp : p < 0 ∨ nI n ≤ p
  · refine ⟨0, fun post h => ?_, fun post h => ?_⟩
    · unfold wpX_memberAccessible
      dsimp only
      exact ac_xbad hp (br_t rfl h)
    · unfold wpY_memberAccessible
      dsimp only
      exact ac_ybad hp (br_t rfl h)
  obtain ⟨o, ho, rfl⟩ := ((pk_ix p (n := n) (by omega)).resolve_left (fun z => hp (Or.inl z))).resolve_left (fun z => hp (Or.inr z))
  by_cases hq : q < 0 ∨ nI n ≤ q
  · refine ⟨0, fun post h => ?_, fun post h => ?_⟩
    · unfold wpX_memberAccessible
      dsimp only
      exact ac_xok hn ho (br_f (by decide) (ac_xbad hq (br_t rfl h)))
    · unfold wpY_memberAccessible
      dsimp only
      exact ac_yok hn ho (br_f (by decide) (ac_ybad hq (br_t rfl h)))
  obtain ⟨d, hd, rfl⟩ := ((pk_ix q (n := n) (by omega)).resolve_left (fun z => hq (Or.inl z))).resolve_left (fun z => hq (Or.inr z))
  by_cases hs : s < 0 ∨ nI n ≤ s
  · refine ⟨0, fun post h => ?_, fun post h => ?_⟩
    · unfold wpX_memberAccessible
      dsimp only
      exact ac_xok hn ho (br_f (by decide) (ac_xok hn hd (br_f (by decide) (ac_xbad hs (br_t rfl h)))))
    · unfold wpY_memberAccessible
      dsimp only
      exact ac_yok hn ho (br_f (by decide) (ac_yok hn hd (br_f (by decide) (ac_ybad hs (br_t rfl h)))))
  obtain ⟨t, ht, rfl⟩ := ((pk_ix s (n := n) (by omega)).resolve_left (fun z => hs (Or.inl z))).resolve_left (fun z => hs (Or.inr z))
  refine ⟨ac_z (ac_f m 1 || ((ac_f m 4 && ((decide (d = o) || ac_b (up d) o) && (ac_f m 8 || (decide (t = d) || (ac_b (up t) d || ac_b (up d) t))))) || (((ac_f m 4 || !ac_f m 2) && decide (pk o = pk d)) || (ac_f m 2 && decide (nh o = nh d))))), fun post h => ?_, fun post h => ?_⟩
  · unfold wpX_memberAccessible
    dsimp only
    refine ac_xok hn ho (br_f (by decide) ?_)
    refine ac_xok hn hd (br_f (by decide) ?_)
    refine ac_xok hn ht (br_f (by decide) ?_)
    refine ac_fl (fun z => wX_memberAccessible_38 post m (nI o) (nI d) (nI t) z (nI c) (nI n) sup fl pk nh) ?_ id id
    unfold wX_memberAccessible_38
    refine ac_fl (fun z => wX_memberAccessible_51 post m (nI o) (nI d) (nI t) (ac_z (ac_f m 1)) z (nI c) (nI n) sup fl pk nh) ?_ id id
    unfold wX_memberAccessible_51
    refine ac_fl (fun z => wX_memberAccessible_64 post m (nI o) (nI d) (nI t) (ac_z (ac_f m 1)) (ac_z (ac_f m 2)) z (nI c) (nI n) sup fl pk nh) ?_ id id
    unfold wX_memberAccessible_64
    refine ac_fl (fun z => wX_memberAccessible_78 post (nI o) (nI d) (nI t) (ac_z (ac_f m 1)) (ac_z (ac_f m 2)) (ac_z (ac_f m 4)) z (nI c) (nI n) sup fl pk nh) ?_ id id
    exact ac_x78 hn R1 R2 ho hd ht _ _ _ _ h
  · unfold wpY_memberAccessible
    dsimp only
    refine ac_yok hn ho (br_f (by decide) ?_)
    refine ac_yok hn hd (br_f (by decide) ?_)
    refine ac_yok hn ht (br_f (by decide) ?_)
    refine ac_fl (fun z => wY_memberAccessible_38 post m (nI o) (nI d) (nI t) z (nI c) (nI n) same fl pk nh up ue) ?_ id id
    unfold wY_memberAccessible_38
    refine ac_fl (fun z => wY_memberAccessible_51 post m (nI o) (nI d) (nI t) (ac_z (ac_f m 1)) z (nI c) (nI n) same fl pk nh up ue) ?_ id id
    unfold wY_memberAccessible_51
    refine ac_fl (fun z => wY_memberAccessible_64 post m (nI o) (nI d) (nI t) (ac_z (ac_f m 1)) (ac_z (ac_f m 2)) z (nI c) (nI n) same fl pk nh up ue) ?_ id id
    unfold wY_memberAccessible_64
    refine ac_fl (fun z => wY_memberAccessible_78 post (nI o) (nI d) (nI t) (ac_z (ac_f m 1)) (ac_z (ac_f m 2)) (ac_z (ac_f m 4)) z (nI c) (nI n) same fl pk nh up ue) ?_ id id
    refine ac_y78 hn R3 ho hd ht _ _ _ _ ?_
    rw [ac_ue R2 hd hn, ac_ue R2 ht hn, ac_word]
    exact h
/-- one answer for both: verdict -/
theorem ac_ve (hn : n ≤ 8) (R1 : ac_R1 n sup up ue) (R2 : ac_R2 n up ue) (R3 : ac_R3 n pk same) (m p q s : Int32) : ∃ r : Int32, (∀ post : Int32 → Prop, post r → wpX_verdict post (nI c, nI n, sup, fl, pk, nh) m p q s) ∧ (∀ post : Int32 → Prop, post r → wpY_verdict post (nI c, nI n, same, fl, pk, nh, up, ue) m p q s) := by
  by_cases hp : p < 0 ∨ nI n ≤ p
  · refine ⟨-1, fun post h => ?_, fun post h => ?_⟩
    · unfold wpX_verdict
      dsimp only
      exact ac_xbad hp (br_t rfl h)
    · unfold wpY_verdict
      dsimp only
      exact ac_ybad hp (br_t rfl h)
  obtain ⟨o, ho, rfl⟩ := ((pk_ix p (n := n) (by omega)).resolve_left (fun z => hp (Or.inl z))).resolve_left (fun z => hp (Or.inr z))
  by_cases hq : q < 0 ∨ nI n ≤ q
  · refine ⟨-1, fun post h => ?_, fun post h => ?_⟩
    · unfold wpX_verdict
      dsimp only
      exact ac_xok hn ho (br_f (by decide) (ac_xbad hq (br_t rfl h)))
    · unfold wpY_verdict
      dsimp only
      exact ac_yok hn ho (br_f (by decide) (ac_ybad hq (br_t rfl h)))
  obtain ⟨d, hd, rfl⟩ := ((pk_ix q (n := n) (by omega)).resolve_left (fun z => hq (Or.inl z))).resolve_left (fun z => hq (Or.inr z))
  by_cases hs : s < 0 ∨ nI n ≤ s
  · refine ⟨-1, fun post h => ?_, fun post h => ?_⟩
    · unfold wpX_verdict
      dsimp only
      exact ac_xok hn ho (br_f (by decide) (ac_xok hn hd (br_f (by decide) (ac_xbad hs (br_t rfl h)))))
    · unfold wpY_verdict
      dsimp only
      exact ac_yok hn ho (br_f (by decide) (ac_yok hn hd (br_f (by decide) (ac_ybad hs (br_t rfl h)))))
  obtain ⟨t, ht, rfl⟩ := ((pk_ix s (n := n) (by omega)).resolve_left (fun z => hs (Or.inl z))).resolve_left (fun z => hs (Or.inr z))
  obtain ⟨r1, x1, y1⟩ := ac_ca (c := c) (sup := sup) (fl := fl) (nh := nh) (up := up) (ue := ue) hn R3 (nI t) (nI d)
  obtain ⟨r2, x2, y2⟩ := ac_ma (c := c) (fl := fl) (nh := nh) hn R1 R2 R3 m (nI o) (nI d) (nI t)
  by_cases e1 : r1 = 0
  · refine ⟨1, fun post h => ?_, fun post h => ?_⟩
    · unfold wpX_verdict
      dsimp only
      exact ac_xok hn ho (br_f (by decide) (ac_xok hn hd (br_f (by decide) (ac_xok hn ht (br_f (by decide) (x1 _ (br_t e1 h)))))))
    · unfold wpY_verdict
      dsimp only
      exact ac_yok hn ho (br_f (by decide) (ac_yok hn hd (br_f (by decide) (ac_yok hn ht (br_f (by decide) (y1 _ (br_t e1 h)))))))
  · by_cases e2 : r2 = 0
    · refine ⟨1, fun post h => ?_, fun post h => ?_⟩
      · unfold wpX_verdict
        dsimp only
        exact ac_xok hn ho (br_f (by decide) (ac_xok hn hd (br_f (by decide) (ac_xok hn ht (br_f (by decide) (x1 _ (br_f e1 (x2 _ (br_t e2 h)))))))))
      · unfold wpY_verdict
        dsimp only
        exact ac_yok hn ho (br_f (by decide) (ac_yok hn hd (br_f (by decide) (ac_yok hn ht (br_f (by decide) (y1 _ (br_f e1 (y2 _ (br_t e2 h)))))))))
    · refine ⟨0, fun post h => ?_, fun post h => ?_⟩
      · unfold wpX_verdict
        dsimp only
        exact ac_xok hn ho (br_f (by decide) (ac_xok hn hd (br_f (by decide) (ac_xok hn ht (br_f (by decide) (x1 _ (br_f e1 (x2 _ (br_f e2 h)))))))))
      · unfold wpY_verdict
        dsimp only
        exact ac_yok hn ho (br_f (by decide) (ac_yok hn hd (br_f (by decide) (ac_yok hn ht (br_f (by decide) (y1 _ (br_f e1 (y2 _ (br_f e2 h)))))))))
end
end
section
/-! addClass: one row more in both tables -/
/-- an index argument that is taken -/
def ac_ok (n : Nat) (x : Int32) : Prop := x = -1 ∨ ∃ j : Nat, j < n ∧ x = nI j
/-- the matrix after i rounds of the reference's loop -/
def ac_J (n i : Nat) (pk : Nat → Int32) (w : Int64) : Prop := ∀ a b, a < 8 → b < 8 → (ac_b w (a * 8 + b) = true ↔ ((a < n ∧ b < n ∧ pk a = pk b) ∨ (a < i ∧ b = n ∧ pk a = pk n) ∨ (b < i ∧ a = n ∧ pk b = pk n)))
section
variable {c n : Nat} {sup fl pk nh : Nat → Int32} {same : Int64} {up ue : Nat → Int64}
theorem ac_okL {x : Int32} (hn : n ≤ 8) (h : ac_ok n x) : ¬ x < -1 ∧ x < nI n := by
  rcases h with rfl | ⟨j, hj, rfl⟩
  · exact ⟨by decide, ac_m1lt n hn⟩
  · exact ⟨ac_nlt j (by omega), nI_lt hj (by omega)⟩
theorem ac_x45 (hn : n < 8) {post : Int32 → SX → Prop} (v1 v2 v3 v4 : Int32) (hp : post (nI n) (nI c, nI (n + 1), upd sup n (vp_nar .short v1.toInt16.toInt32), upd fl n (vp_nar .char ((v2.toUInt32 % 65536).toInt32)), upd pk n (vp_nar .short v3.toInt16.toInt32), upd nh n (vp_nar .short (if v4 = -1 then nI n else v4).toInt16.toInt32))) : wX_addClass_45 post v1 v2 v3 v4 (nI c) (nI n) sup fl pk nh := by
  have vn : vp_in (nI n) 8 := vp_in_nI hn (by omega)
  unfold wX_addClass_45
  rw [nI_clamp (n := n) (by omega)]
  refine ⟨vn, nm_e ⟨vn, nm_e ⟨vn, nm_e ?_⟩⟩⟩
  by_cases h4 : v4 = -1
  · rw [if_pos h4] at hp
    exact br_t h4 ⟨vn, nm_e (nm_r (e' := nI (n + 1)) (nI_1 n) hp)⟩
  · rw [if_neg h4] at hp
    exact br_f h4 ⟨vn, nm_e (nm_r (e' := nI (n + 1)) (nI_1 n) hp)⟩
theorem ac_yL (hn : n < 8) {post : Int32 → SY → Prop} {K : Int32} (hK : pk n = K) (H : ∀ w, ac_R3 (n + 1) pk w → post (nI n) (nI c, nI (n + 1), w, fl, pk, nh, up, ue)) : ∀ (m i : Nat) (w : Int64), i ≤ n + 1 → n + 1 - i < m → ac_J n i pk w → wY_addClass_145 post (nI n) K m (nI i) (nI c) (nI (n + 1)) w fl pk nh up ue := by
  intro m
  induction m with
  | zero => intro i w _ h; omega
  | succ m ih =>
    intro i w hi hm hJ
    by_cases hx : i = n + 1
    · subst hx
      refine br_t (nI_lt (by omega) (by omega)) (H w ?_)
      intro a b ha hb
      rw [hJ a b ha hb]
      constructor
      · rintro (⟨h1, h2, h3⟩ | ⟨h1, h2, h3⟩ | ⟨h1, h2, h3⟩)
        · exact ⟨by omega, by omega, h3⟩
        · exact ⟨h1, by omega, by rw [h2]; exact h3⟩
        · exact ⟨by omega, h1, by rw [h2]; exact h3.symm⟩
      · rintro ⟨h1, h2, h3⟩
        by_cases e1 : b = n
        · exact Or.inr (Or.inl ⟨h1, e1, by rw [h3, e1]⟩)
        · by_cases e2 : a = n
          · exact Or.inr (Or.inr ⟨h2, e2, by rw [← h3, e2]⟩)
          · exact Or.inl ⟨by omega, by omega, h3⟩
    · refine br_f (nI_nlt (by omega) (by omega)) ⟨vp_in_nI (by omega) (by omega), ?_⟩
      rw [ac_at (f := pk) (i := i) (by omega)]
      by_cases hk : pk i = K
      · refine br_t hk ?_
        unfold wpY_join
        dsimp only
        rw [ac_ix i (by omega) n (by omega), ac_ix n (by omega) i (by omega)]
        refine nm_e (nm_r (e' := nI (i + 1)) (nI_1 i) ?_)
        refine ih (i + 1) _ (by omega) (by omega) ?_
        intro a b ha hb
        show ac_b (w ||| (ac_p (i * 8 + n) ||| ac_p (n * 8 + i))) (a * 8 + b) = true ↔ _
        rw [ac_or, ac_or, ac_one (by omega), ac_one (by omega), Bool.or_eq_true, Bool.or_eq_true, decide_eq_true_iff, decide_eq_true_iff, hJ a b ha hb]
        constructor
        · rintro ((h | ⟨h1, h2, h3⟩ | ⟨h1, h2, h3⟩) | h | h)
          · exact Or.inl h
          · exact Or.inr (Or.inl ⟨by omega, h2, h3⟩)
          · exact Or.inr (Or.inr ⟨by omega, h2, h3⟩)
          · have e : a = i ∧ b = n := by omega
            exact Or.inr (Or.inl ⟨by omega, e.2, by rw [e.1, hk, hK]⟩)
          · have e : a = n ∧ b = i := by omega
            exact Or.inr (Or.inr ⟨by omega, e.1, by rw [e.2, hk, hK]⟩)
        · rintro (h | ⟨h1, h2, h3⟩ | ⟨h1, h2, h3⟩)
          · exact Or.inl (Or.inl h)
          · by_cases e : a = i
            · exact Or.inr (Or.inl (by rw [e, h2]))
            · exact Or.inl (Or.inr (Or.inl ⟨by omega, h2, h3⟩))
          · by_cases e : b = i
            · exact Or.inr (Or.inr (by rw [e, h2]))
            · exact Or.inl (Or.inr (Or.inr ⟨by omega, h2, h3⟩))
      · refine br_f hk (nm_r (e' := nI (i + 1)) (nI_1 i) ?_)
        refine ih (i + 1) w (by omega) (by omega) ?_
        intro a b ha hb
        rw [hJ a b ha hb]
        constructor
        · rintro (h | ⟨h1, h2, h3⟩ | ⟨h1, h2, h3⟩)
          · exact Or.inl h
          · exact Or.inr (Or.inl ⟨by omega, h2, h3⟩)
          · exact Or.inr (Or.inr ⟨by omega, h2, h3⟩)
        · rintro (h | ⟨h1, h2, h3⟩ | ⟨h1, h2, h3⟩)
          · exact Or.inl h
          · have e : a ≠ i := fun z => hk (by rw [← z, h3, hK])
            exact Or.inr (Or.inl ⟨by omega, h2, h3⟩)
          · have e : b ≠ i := fun z => hk (by rw [← z, h3, hK])
            exact Or.inr (Or.inr ⟨by omega, h2, h3⟩)
theorem ac_J0 {K : Int32} (R3 : ac_R3 n pk same) : ac_J n 0 (upd pk n K) same := by
  intro a b ha hb
  rw [R3 a b ha hb]
  constructor
  · rintro ⟨h1, h2, h3⟩
    exact Or.inl ⟨h1, h2, by rw [pk_un (by omega), pk_un (by omega)]; exact h3⟩
  · rintro (⟨h1, h2, h3⟩ | ⟨h1, h2, h3⟩ | ⟨h1, h2, h3⟩)
    · rw [pk_un (by omega), pk_un (by omega)] at h3
      exact ⟨h1, h2, h3⟩
    · omega
    · omega
theorem ac_y125 (hn : n < 8) {post : Int32 → SY → Prop} {K : Int32} (z0 : Int64) (hK : pk n = K) (J : ac_J n 0 pk same) (H : ∀ w, ac_R3 (n + 1) pk w → post (nI n) (nI c, nI (n + 1), w, fl, pk, nh, vp_updL up n z0, vp_updL (vp_updL ue n z0) n (z0 ||| ac_p n))) : wY_addClass_125 post (nI n) K z0 (nI n) (nI n) (nI c) (nI (n + 1)) same fl pk nh up ue := by
  have vn : vp_in (nI n) 8 := vp_in_nI hn (by omega)
  unfold wY_addClass_125
  rw [nI_clamp (n := n) (by omega)]
  refine ⟨vn, nm_e ⟨vn, nm_e ⟨vn, vn, nm_r (e' := vp_updL (vp_updL ue n z0) n (z0 ||| ac_p n)) (by rw [pk_uLs]; rfl) ⟨n + 2, ?_⟩⟩⟩⟩
  exact ac_yL hn hK H (n + 2) 0 same (by omega) (by omega) J
/-- the closures behind a new row -/
theorem ac_N1 (R1 : ac_R1 n sup up ue) {S : Int32} {z0 : Int64} (hS : (S = -1 ∧ z0 = 0) ∨ ∃ j, j < n ∧ S = nI j ∧ z0 = ue j) : ac_R1 (n + 1) (upd sup n S) (vp_updL up n z0) (vp_updL (vp_updL ue n z0) n (z0 ||| ac_p n)) := by
  intro i hi
  by_cases e : i = n
  · subst e
    rw [pk_us, pk_uLs]
    rcases hS with h | ⟨j, hj, h1, h2⟩
    · exact Or.inl h
    · exact Or.inr ⟨j, hj, h1, by rw [pk_uLn (by omega), pk_uLn (by omega)]; exact h2⟩
  · rw [pk_un e, pk_uLn e]
    rcases R1 i (by omega) with h | ⟨j, hj, h1, h2⟩
    · exact Or.inl h
    · exact Or.inr ⟨j, hj, h1, by rw [pk_uLn (by omega), pk_uLn (by omega)]; exact h2⟩
theorem ac_N2 (R2 : ac_R2 n up ue) (z0 : Int64) : ac_R2 (n + 1) (vp_updL up n z0) (vp_updL (vp_updL ue n z0) n (z0 ||| ac_p n)) := by
  intro i hi
  by_cases e : i = n
  · subst e
    rw [pk_uLs, pk_uLs]
  · rw [pk_uLn e, pk_uLn e, pk_uLn e]
    exact R2 i (by omega)
theorem ac_y85 (hn : n < 8) {post : Int32 → SY → Prop} (R1 : ac_R1 n sup up ue) (R2 : ac_R2 n up ue) (R3 : ac_R3 n pk same) {v1 : Int32} (v3 z : Int32) (ok : ac_ok n v1) (H : ∀ w up' ue', ac_R1 (n + 1) (upd sup n (vp_nar .short v1.toInt16.toInt32)) up' ue' → ac_R2 (n + 1) up' ue' → ac_R3 (n + 1) (upd pk n (vp_nar .short v3.toInt16.toInt32)) w → post (nI n) (nI c, nI (n + 1), w, fl, upd pk n (vp_nar .short v3.toInt16.toInt32), upd nh n (vp_nar .short z.toInt16.toInt32), up', ue')) : wY_addClass_85 post v1 v3 (nI n) z (nI n) (nI c) (nI (n + 1)) same fl pk nh up ue := by
  have vn : vp_in (nI n) 8 := vp_in_nI hn (by omega)
  unfold wY_addClass_85
  rw [nI_clamp (n := n) (by omega)]
  refine ⟨vn, nm_e ⟨vn, nm_e ?_⟩⟩
  have hK : upd pk n (vp_nar .short v3.toInt16.toInt32) n = v3.toInt16.toInt32 := by rw [pk_us, pk_vs]
  rcases ok with rfl | ⟨j, hj, rfl⟩
  · refine br_f (by decide) (ac_y125 hn 0 hK (ac_J0 R3) fun w h3 => H w _ _ (ac_N1 R1 (Or.inl ⟨by rw [pk_vs]; decide, rfl⟩)) (ac_N2 R2 0) h3)
  · refine br_t (nI_pos' (by omega)) ⟨vp_in_nI (by omega) (by omega), ?_⟩
    rw [ac_atL (f := ue) (i := j) (by omega)]
    exact ac_y125 hn (ue j) hK (ac_J0 R3) fun w h3 => H w _ _ (ac_N1 R1 (Or.inr ⟨j, hj, by rw [pk_vs, ac_s16 j (by omega)], rfl⟩)) (ac_N2 R2 (ue j)) h3
/-- a call that is turned away -/
theorem ac_addNo (hc : c ≤ 8) (hnc : n ≤ c) (v1 v2 v3 v4 : Int32) : ((∀ post : Int32 → SX → Prop, post (-1) (nI c, nI n, sup, fl, pk, nh) → wpX_addClass post (nI c, nI n, sup, fl, pk, nh) v1 v2 v3 v4) ∧ (∀ post : Int32 → SY → Prop, post (-1) (nI c, nI n, same, fl, pk, nh, up, ue) → wpY_addClass post (nI c, nI n, same, fl, pk, nh, up, ue) v1 v2 v3 v4)) ∨ (n < c ∧ ac_ok n v1 ∧ ac_ok n v4) := by
  have hn : n ≤ 8 := by omega
  by_cases h : n < c
  · have hl : nI n < nI c := nI_lt h (by omega)
    have c1 : ac_ok n v1 ∨ (v1 ≠ -1 ∧ (v1 < 0 ∨ nI n ≤ v1) ∧ (v1 < -1 ∨ (¬ v1 < -1 ∧ ¬ v1 < nI n))) := by
      rcases ac_arg v1 hn with z | z | z
      · exact Or.inl (Or.inl z)
      · exact Or.inr z
      · exact Or.inl (Or.inr z)
    have c4 : ac_ok n v4 ∨ (v4 ≠ -1 ∧ (v4 < 0 ∨ nI n ≤ v4) ∧ (v4 < -1 ∨ (¬ v4 < -1 ∧ ¬ v4 < nI n))) := by
      rcases ac_arg v4 hn with z | z | z
      · exact Or.inl (Or.inl z)
      · exact Or.inr z
      · exact Or.inl (Or.inr z)
    rcases c1 with k1 | ⟨a1, a2, a3⟩
    · rcases c4 with k4 | ⟨b1, b2, b3⟩
      · exact Or.inr ⟨h, k1, k4⟩
      · refine Or.inl ⟨fun post hp => ?_, fun post hp => ?_⟩
        · have hh : wX_addClass_28 post v1 v2 v3 v4 (nI c) (nI n) sup fl pk nh := br_f b1 (ac_xbad b2 (br_t rfl hp))
          rcases k1 with e | ⟨j, hj, rfl⟩
          · exact br_t hl (br_t e hh)
          · exact br_t hl (br_f (ac_nm1 j (by omega)) (ac_xok hn hj (br_f (by decide) hh)))
        · have kl := ac_okL hn k1
          rcases b3 with b3 | ⟨b3, b4⟩
          · exact br_t hl (br_f kl.1 (br_t kl.2 (br_t b3 hp)))
          · exact br_t hl (br_f kl.1 (br_t kl.2 (br_f b3 (br_f b4 hp))))
    · refine Or.inl ⟨fun post hp => br_t hl (br_f a1 (ac_xbad a2 (br_t rfl hp))), fun post hp => ?_⟩
      rcases a3 with a3 | ⟨a3, a4⟩
      · exact br_t hl (br_t a3 hp)
      · exact br_t hl (br_f a3 (br_f a4 hp))
  · have hl : ¬ nI n < nI c := nI_nlt (by omega) (by omega)
    exact Or.inl ⟨fun post hp => br_f hl hp, fun post hp => br_f hl hp⟩
theorem ac_xadd (hc : c ≤ 8) (h : n < c) {post : Int32 → SX → Prop} {v1 v4 : Int32} (v2 v3 : Int32) (k1 : ac_ok n v1) (k4 : ac_ok n v4) (hp : post (nI n) (nI c, nI (n + 1), upd sup n (vp_nar .short v1.toInt16.toInt32), upd fl n (vp_nar .char ((v2.toUInt32 % 65536).toInt32)), upd pk n (vp_nar .short v3.toInt16.toInt32), upd nh n (vp_nar .short (if v4 = -1 then nI n else v4).toInt16.toInt32))) : wpX_addClass post (nI c, nI n, sup, fl, pk, nh) v1 v2 v3 v4 := by
  have hn : n ≤ 8 := by omega
  have hl : nI n < nI c := nI_lt h (by omega)
  have h45 : wX_addClass_45 post v1 v2 v3 v4 (nI c) (nI n) sup fl pk nh := ac_x45 (by omega) v1 v2 v3 v4 hp
  have h28 : wX_addClass_28 post v1 v2 v3 v4 (nI c) (nI n) sup fl pk nh := by
    rcases k4 with e | ⟨j, hj, rfl⟩
    · exact br_t e h45
    · exact br_f (ac_nm1 j (by omega)) (ac_xok hn hj (br_f (by decide) h45))
  rcases k1 with e | ⟨j, hj, rfl⟩
  · exact br_t hl (br_t e h28)
  · exact br_t hl (br_f (ac_nm1 j (by omega)) (ac_xok hn hj (br_f (by decide) h28)))
theorem ac_yadd (hc : c ≤ 8) (h : n < c) (R1 : ac_R1 n sup up ue) (R2 : ac_R2 n up ue) (R3 : ac_R3 n pk same) {post : Int32 → SY → Prop} {v1 v4 : Int32} (v2 v3 : Int32) (k1 : ac_ok n v1) (k4 : ac_ok n v4) (H : ∀ w up' ue', ac_R1 (n + 1) (upd sup n (vp_nar .short v1.toInt16.toInt32)) up' ue' → ac_R2 (n + 1) up' ue' → ac_R3 (n + 1) (upd pk n (vp_nar .short v3.toInt16.toInt32)) w → post (nI n) (nI c, nI (n + 1), w, upd fl n (vp_nar .char ((v2.toUInt32 % 65536).toInt32)), upd pk n (vp_nar .short v3.toInt16.toInt32), upd nh n (vp_nar .short (if v4 = -1 then nI n else v4).toInt16.toInt32), up', ue')) : wpY_addClass post (nI c, nI n, same, fl, pk, nh, up, ue) v1 v2 v3 v4 := by
  have hn : n ≤ 8 := by omega
  have hl : nI n < nI c := nI_lt h (by omega)
  have l1 := ac_okL hn k1
  have l4 := ac_okL hn k4
  unfold wpY_addClass
  dsimp only
  refine br_t hl (br_f l1.1 (br_t l1.2 (br_f l4.1 (br_t l4.2 (nm_r (e' := nI (n + 1)) (nI_1 n) ⟨vp_in_nI (by omega) (by omega), ?_⟩)))))
  rw [nI_clamp (n := n) (by omega)]
  refine nm_e ?_
  rcases k4 with rfl | ⟨j, hj, rfl⟩
  · rw [if_pos rfl] at H
    exact br_f (by decide) (ac_y85 (by omega) R1 R2 R3 v3 (nI n) k1 H)
  · rw [if_neg (ac_nm1 j (by omega))] at H
    exact br_t (nI_pos' (by omega)) (ac_y85 (by omega) R1 R2 R3 v3 (nI j) k1 H)
end
end
section
/-- the relation at the head of a turn whose first cell is k: (u : SX) is (f_cap, f_count, a_superOf, a_flags, a_pkg, a_nestHostOf), (v : SY) is (f_cap, f_count, f_same, a_flags, a_pkg, a_host, a_up, a_upEq) -/
def i_Rel (_ : Nat) (u : SX) (v : SY) : Prop := ∃ (c n : Nat) (sup fl pk nh : Nat → Int32) (same : Int64) (up ue : Nat → Int64), u = (nI c, nI n, sup, fl, pk, nh) ∧ v = (nI c, nI n, same, fl, pk, nh, up, ue) ∧ n ≤ c ∧ c ≤ 8 ∧ ac_R1 n sup up ue ∧ ac_R2 n up ue ∧ ac_R3 n pk same
theorem i_up {k : Nat} {u : SX} {v : SY} (h : i_Rel k u v) : i_Rel (k + 5) u v := h
theorem ac_rel0 {c : Nat} (hc : c ≤ 8) (k : Nat) : i_Rel k (nI c, 0, (fun _ => 0), (fun _ => 0), (fun _ => 0), (fun _ => 0)) (nI c, 0, 0, (fun _ => 0), (fun _ => 0), (fun _ => 0), (fun _ => 0), (fun _ => 0)) := by
  refine ⟨c, 0, _, _, _, _, _, _, _, rfl, rfl, Nat.zero_le _, hc, ?_, ?_, ?_⟩
  · intro i hi; omega
  · intro i hi; omega
  · intro a b _ _
    rw [ac_b0]
    exact ⟨fun h => absurd h (by decide), fun h => absurd h.1 (by omega)⟩
theorem i_vc0 (k0 : Int32) : wpX_init (fun u => wpY_init (fun v => i_Rel 1 u v) k0) k0 := by
  by_cases h1 : 1 ≤ k0
  · by_cases h8 : k0 ≤ 8
    · obtain ⟨c, hc, rfl⟩ := nI_of2 (x := k0) (M := 8) (n := 8) (by decide) (Int32.not_lt.mpr (Int32.le_trans (by decide) h1)) h8
      exact br_t h1 (br_t h8 (br_t h1 (br_t h8 (ac_rel0 hc 1))))
    · exact br_t h1 (br_f h8 (br_t h1 (br_f h8 (ac_rel0 (c := 8) (by omega) 1))))
  · exact br_f h1 (br_t (by decide) (br_f h1 (ac_rel0 (c := 1) (by omega) 1)))
theorem i_vc_addClass {k : Nat} {u : SX} {v : SY} (I : i_Rel k u v) (hk : k + 5 ≤ 2561) (v1 : Int32) (v2 : Int32) (v3 : Int32) (v4 : Int32) : wpX_addClass (fun r u' => wpY_addClass (fun r' v' => r' = r ∧ i_Rel (k + 5) u' v') v v1 v2 v3 v4) u v1 v2 v3 v4 := by
  have I0 : i_Rel (k + 5) u v := I
  obtain ⟨c, n, sup, fl, pk, nh, same, up, ue, rfl, rfl, hnc, hc, R1, R2, R3⟩ := I
  rcases ac_addNo (sup := sup) (fl := fl) (pk := pk) (nh := nh) (same := same) (up := up) (ue := ue) hc hnc v1 v2 v3 v4 with ⟨hX, hY⟩ | ⟨h, k1, k4⟩
  · exact hX _ (hY _ ⟨rfl, I0⟩)
  · exact ac_xadd hc h v2 v3 k1 k4 (ac_yadd hc h R1 R2 R3 v2 v3 k1 k4 fun w up' ue' h1 h2 h3 => ⟨rfl, c, n + 1, _, _, _, _, w, up', ue', rfl, rfl, h, hc, h1, h2, h3⟩)
theorem i_vc_classAccessible {k : Nat} {u : SX} {v : SY} (I : i_Rel k u v) (hk : k + 5 ≤ 2561) (v1 : Int32) (v2 : Int32) : wpX_classAccessible (fun r => wpY_classAccessible (fun r' => r' = r ∧ i_Rel (k + 5) u v) v v1 v2) u v1 v2 := by
  have I0 : i_Rel (k + 5) u v := I
  obtain ⟨c, n, sup, fl, pk, nh, same, up, ue, rfl, rfl, hnc, hc, R1, R2, R3⟩ := I
  obtain ⟨r, hX, hY⟩ := ac_ca (c := c) (sup := sup) (fl := fl) (nh := nh) (up := up) (ue := ue) (by omega) R3 v1 v2
  exact hX _ (hY _ ⟨rfl, I0⟩)
theorem i_vc_memberAccessible {k : Nat} {u : SX} {v : SY} (I : i_Rel k u v) (hk : k + 5 ≤ 2561) (v1 : Int32) (v2 : Int32) (v3 : Int32) (v4 : Int32) : wpX_memberAccessible (fun r => wpY_memberAccessible (fun r' => r' = r ∧ i_Rel (k + 5) u v) v v1 v2 v3 v4) u v1 v2 v3 v4 := by
  have I0 : i_Rel (k + 5) u v := I
  obtain ⟨c, n, sup, fl, pk, nh, same, up, ue, rfl, rfl, hnc, hc, R1, R2, R3⟩ := I
  obtain ⟨r, hX, hY⟩ := ac_ma (c := c) (fl := fl) (nh := nh) (by omega) R1 R2 R3 v1 v2 v3 v4
  exact hX _ (hY _ ⟨rfl, I0⟩)
theorem i_vc_verdict {k : Nat} {u : SX} {v : SY} (I : i_Rel k u v) (hk : k + 5 ≤ 2561) (v1 : Int32) (v2 : Int32) (v3 : Int32) (v4 : Int32) : wpX_verdict (fun r => wpY_verdict (fun r' => r' = r ∧ i_Rel (k + 5) u v) v v1 v2 v3 v4) u v1 v2 v3 v4 := by
  have I0 : i_Rel (k + 5) u v := I
  obtain ⟨c, n, sup, fl, pk, nh, same, up, ue, rfl, rfl, hnc, hc, R1, R2, R3⟩ := I
  obtain ⟨r, hX, hY⟩ := ac_ve (c := c) (fl := fl) (nh := nh) (by omega) R1 R2 R3 v1 v2 v3 v4
  exact hX _ (hY _ ⟨rfl, I0⟩)
theorem i_vc_isSubclass {k : Nat} {u : SX} {v : SY} (I : i_Rel k u v) (hk : k + 5 ≤ 2561) (v1 : Int32) (v2 : Int32) : wpX_isSubclass (fun r => wpY_isSubclass (fun r' => r' = r ∧ i_Rel (k + 5) u v) v v1 v2) u v1 v2 := by
  have I0 : i_Rel (k + 5) u v := I
  obtain ⟨c, n, sup, fl, pk, nh, same, up, ue, rfl, rfl, hnc, hc, R1, R2, R3⟩ := I
  obtain ⟨r, hX, hY⟩ := ac_sub (c := c) (fl := fl) (pk := pk) (nh := nh) (same := same) (by omega) R1 R2 v1 v2
  exact hX _ (hY _ ⟨rfl, I0⟩)
theorem i_vc_supers {k : Nat} {u : SX} {v : SY} (I : i_Rel k u v) (hk : k + 5 ≤ 2561) (v1 : Int32) : wpX_supers (fun r => wpY_supers (fun r' => r' = r ∧ i_Rel (k + 5) u v) v v1) u v1 := by
  have I0 : i_Rel (k + 5) u v := I
  obtain ⟨c, n, sup, fl, pk, nh, same, up, ue, rfl, rfl, hnc, hc, R1, R2, R3⟩ := I
  have hn : n ≤ 8 := by omega
  by_cases hp : v1 < 0 ∨ nI n ≤ v1
  · unfold wpX_supers wpY_supers
    dsimp only
    refine ac_xbad hp (br_t rfl ?_)
    exact ac_ybad hp (br_t rfl ⟨rfl, I0⟩)
  · obtain ⟨a, ha, rfl⟩ := ((pk_ix v1 (n := n) (by omega)).resolve_left (fun z => hp (Or.inl z))).resolve_left (fun z => hp (Or.inr z))
    refine ac_xsup hn R1 R2 ha ?_
    unfold wpY_supers
    dsimp only
    refine ac_yok hn ha (br_f (by decide) ⟨vp_in_nI (by omega) (by omega), ?_⟩)
    rw [ac_atL (f := up) (i := a) (by omega)]
    exact ⟨rfl, I0⟩
end
