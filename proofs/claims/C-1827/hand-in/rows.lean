section
/-! rows pasted from the kit: pk_*, ts_*, wb_cu, u_tn -/
theorem pk_us {f : Nat → Int32} {k : Nat} {x : Int32} : upd f k x k = x := if_pos rfl
theorem pk_un {f : Nat → Int32} {k j : Nat} {x : Int32} (h : j ≠ k) : upd f k x j = f j := if_neg h
theorem pk_uLs {f : Nat → Int64} {k : Nat} {x : Int64} : vp_updL f k x k = x := if_pos rfl
theorem pk_uLn {f : Nat → Int64} {k j : Nat} {x : Int64} (h : j ≠ k) : vp_updL f k x j = f j := if_neg h
theorem pk_sub {a b : Nat} (h : b ≤ a) : nI a - nI b = nI (a - b) := by
  obtain ⟨c, rfl⟩ : ∃ c, a = c + b := ⟨a - b, by omega⟩
  rw [← nI_add, Int32.add_sub_cancel, Nat.add_sub_cancel]
theorem pk_mul (a b : Nat) : nI a * nI b = nI (a * b) := (Int32.ofNat_mul a b).symm
theorem pk_ix (x : Int32) {n : Nat} (hn : n < 2 ^ 31) : x < 0 ∨ nI n ≤ x ∨ ∃ j : Nat, j < n ∧ x = nI j := by
  by_cases h : x < 0
  · exact Or.inl h
  · obtain ⟨j, hj, rfl⟩ := nI_of h
    by_cases h2 : j < n
    · exact Or.inr (Or.inr ⟨j, h2, rfl⟩)
    · exact Or.inr (Or.inl (nI_le (by omega) hj))
theorem pk_le {x y : Int32} {A B : Prop} (a b : Nat) (f : a ≤ b → A) (g : b < a → B) (hx : x = nI a := by rfl) (hy : y = nI b := by rfl) (ha : a < 2 ^ 31 := by omega) (hb : b < 2 ^ 31 := by omega) : (x ≤ y → A) ∧ (¬ x ≤ y → B) := by
  subst hx hy
  rw [nI_leI ha hb]
  exact ⟨f, fun z => g (by omega)⟩
theorem pk_lt {x y : Int32} {A B : Prop} (a b : Nat) (f : a < b → A) (g : b ≤ a → B) (hx : x = nI a := by rfl) (hy : y = nI b := by rfl) (ha : a < 2 ^ 31 := by omega) (hb : b < 2 ^ 31 := by omega) : (x < y → A) ∧ (¬ x < y → B) := by
  subst hx hy
  rw [nI_ltI ha hb]
  exact ⟨f, fun z => g (by omega)⟩
theorem pk_eq {x y : Int32} {A B : Prop} (a b : Nat) (f : a = b → A) (g : a ≠ b → B) (hx : x = nI a := by rfl) (hy : y = nI b := by rfl) (ha : a < 2 ^ 31 := by omega) (hb : b < 2 ^ 31 := by omega) : (x = y → A) ∧ (¬ x = y → B) := by
  subst hx hy
  rw [nI_eq ha hb]
  exact ⟨f, g⟩
theorem pk_in {x : Int32} (n N : Nat) (h : n < N) (hx : x = nI n := by rfl) (hN : N < 2 ^ 31 := by omega) : vp_in x N := by
  subst hx
  exact vp_in_nI h hN
theorem pk_cl {x : Int32} (n : Nat) (hx : x = nI n := by rfl) (h : n < 2 ^ 31 := by omega) : x.toNatClampNeg = n := by
  subst hx
  exact nI_clamp h
theorem ts_nf {x : Bool} (h : ¬ x = false) : x = true := by cases x <;> first | rfl | exact absurd rfl h
theorem ts_nt {x : Bool} (h : ¬ x = true) : x = false := by cases x <;> first | rfl | exact absurd rfl h
theorem wb_cu : ∀ k, k < 64 → ((nI k).toInt64.toUInt64 &&& Int64.toUInt64 63) = UInt64.ofNat k := by decide +kernel
theorem u_tn {n : Nat} (h : n < 2 ^ 64) : (UInt64.ofNat n).toNat = n := Nat.mod_eq_of_lt h
/-! ===== bits of a long ===== -/
def cs_bl (x : Int64) (i : Nat) : Bool := x.toBitVec.getLsbD i
theorem cs_hi {x : Int64} {i : Nat} (h : 64 ≤ i) : cs_bl x i = false := BitVec.getLsbD_of_ge _ _ h
theorem cs_b0 (i : Nat) : cs_bl 0 i = false := BitVec.getLsbD_zero
theorem cs_bext {x y : Int64} (h : ∀ i, i < 64 → cs_bl x i = cs_bl y i) : x = y := Int64.toBitVec_inj.mp (BitVec.eq_of_getLsbD_eq (fun i hi => h i hi))
theorem cs_has (w : Int64) {j : Nat} (hj : j < 64) : (((w.toUInt64 >>> ((nI j).toInt64.toUInt64 &&& Int64.toUInt64 63)).toInt64) &&& 1) = 1 ↔ cs_bl w j = true := by
  have hs : ((nI j).toInt64.toUInt64 &&& Int64.toUInt64 63).toNat = j := by rw [wb_cu j hj]; exact u_tn (by omega)
  generalize ((nI j).toInt64.toUInt64 &&& Int64.toUInt64 63) = s at hs
  have e : (w.toUInt64 >>> s).toInt64.toBitVec = w.toBitVec >>> j := by
    apply BitVec.eq_of_toNat_eq
    show (w.toUInt64 >>> s).toNat = _
    rw [UInt64.toNat_shiftRight, hs, Nat.mod_eq_of_lt hj, BitVec.toNat_ushiftRight]
    rfl
  rw [← Int64.toBitVec_inj, Int64.toBitVec_and, e]
  show w.toBitVec >>> j &&& 1#64 = 1#64 ↔ w.toBitVec.getLsbD j = true
  rw [BitVec.and_one_eq_setWidth_ofBool_getLsbD, BitVec.getLsbD_ushiftRight, Nat.add_zero]
  cases w.toBitVec.getLsbD j
  · exact ⟨fun z => absurd z (by decide), fun z => absurd z (by decide)⟩
  · exact ⟨fun _ => rfl, fun _ => by decide⟩
theorem cs_tp : ∀ j, j < 64 → ((1 : Int64) <<< ((nI j).toInt64 &&& 63)).toBitVec = BitVec.twoPow 64 j := by decide +kernel
theorem cs_or (w : Int64) {j : Nat} (hj : j < 64) (i : Nat) : cs_bl (w ||| ((1 : Int64) <<< ((nI j).toInt64 &&& 63))) i = (cs_bl w i || decide (i = j)) := by
  unfold cs_bl
  rw [Int64.toBitVec_or, cs_tp j hj, BitVec.getLsbD_or, BitVec.getLsbD_twoPow, decide_eq_true hj, Bool.true_and]
  by_cases e : j = i
  · subst e; rw [decide_eq_true rfl]
  · rw [decide_eq_false e, decide_eq_false (fun z => e z.symm)]
theorem cs_an (x y : Int64) (i : Nat) : cs_bl (x &&& (y ^^^ (-1))) i = (cs_bl x i && !cs_bl y i) := by
  have ha : (-1 : Int64).toBitVec = BitVec.allOnes 64 := by decide
  by_cases h : i < 64
  · unfold cs_bl
    rw [Int64.toBitVec_and, Int64.toBitVec_xor, ha, BitVec.getLsbD_and, BitVec.getLsbD_xor, BitVec.getLsbD_allOnes, decide_eq_true h, Bool.xor_true]
  · rw [cs_hi (by omega), cs_hi (x := x) (by omega), Bool.false_and]
theorem cs_bz (x : Int64) : x = 0 ↔ ∀ i, cs_bl x i = false := by
  constructor
  · intro h i; rw [h]; exact cs_b0 i
  · intro h; exact cs_bext (fun i _ => by rw [h i, cs_b0])
/-! ===== counts ===== -/
def cs_n (p : Nat → Bool) : Nat → Nat
  | 0 => 0
  | m + 1 => cs_n p m + (p m).toNat
theorem cn_s (p : Nat → Bool) (m : Nat) : cs_n p (m + 1) = cs_n p m + (p m).toNat := rfl
theorem cn_st {p : Nat → Bool} {m : Nat} (h : p m = true) : cs_n p (m + 1) = cs_n p m + 1 := by rw [cn_s, h]; rfl
theorem cn_sf {p : Nat → Bool} {m : Nat} (h : p m = false) : cs_n p (m + 1) = cs_n p m := by rw [cn_s, h]; rfl
theorem cn_le (p : Nat → Bool) : ∀ m, cs_n p m ≤ m := by
  intro m
  induction m with
  | zero => exact Nat.le_refl 0
  | succ m ih =>
    cases h : p m
    · rw [cn_sf h]; omega
    · rw [cn_st h]; omega
theorem cn_cg {p q : Nat → Bool} : ∀ m, (∀ i, i < m → p i = q i) → cs_n p m = cs_n q m := by
  intro m
  induction m with
  | zero => exact fun _ => rfl
  | succ m ih =>
    intro h
    rw [cn_s, cn_s, ih (fun i hi => h i (by omega)), h m (by omega)]
theorem cn_mono {p q : Nat → Bool} : ∀ m, (∀ i, i < m → p i = true → q i = true) → cs_n p m ≤ cs_n q m := by
  intro m
  induction m with
  | zero => exact fun _ => Nat.le_refl 0
  | succ m ih =>
    intro h
    have a := ih (fun i hi => h i (by omega))
    have b := h m (by omega)
    cases hp : p m
    · rw [cn_sf hp]
      cases hq : q m
      · rw [cn_sf hq]; exact a
      · rw [cn_st hq]; omega
    · rw [cn_st hp, cn_st (b hp)]; omega
theorem cn_add {p q : Nat → Bool} {v : Nat} (hp : p v = false) (hq : q v = true) (h : ∀ i, i ≠ v → q i = p i) : ∀ m, v < m → cs_n q m = cs_n p m + 1 := by
  intro m
  induction m with
  | zero => exact fun z => absurd z (by omega)
  | succ m ih =>
    intro hv
    by_cases e : v = m
    · subst e
      rw [cn_st hq, cn_sf hp, cn_cg (p := q) (q := p) v (fun i hi => h i (by omega))]
    · rw [cn_s, cn_s, ih (by omega), h m (by omega)]
      omega
theorem cn_0 {p : Nat → Bool} : ∀ m, cs_n p m = 0 → ∀ i, i < m → p i = false := by
  intro m
  induction m with
  | zero => exact fun _ i z => absurd z (by omega)
  | succ m ih =>
    intro h i hi
    have hm : p m = false := by
      cases hp : p m
      · rfl
      · rw [cn_st hp] at h; omega
    rw [cn_sf hm] at h
    by_cases e : i = m
    · rw [e]; exact hm
    · exact ih h i (by omega)
theorem cn_z {p : Nat → Bool} (m : Nat) (h : ∀ i, i < m → p i = false) : cs_n p m = 0 := by
  induction m with
  | zero => rfl
  | succ m ih => rw [cn_sf (h m (by omega)), ih (fun i hi => h i (by omega))]
theorem cn_ext {p : Nat → Bool} {n : Nat} (h : ∀ i, n ≤ i → p i = false) : ∀ m, n ≤ m → cs_n p m = cs_n p n := by
  intro m
  induction m with
  | zero => intro z; have : n = 0 := by omega
            rw [this]
  | succ m ih =>
    intro z
    by_cases e : n = m + 1
    · rw [e]
    · rw [cn_sf (h m (by omega)), ih (by omega)]
/-! ===== a boolean as an int ===== -/
def cs_1 (b : Bool) : Int32 := cond b 1 0
theorem cs_1br {b : Bool} {x : Int32} {A B : Prop} (hx : x = cs_1 b) (f : b = false → A) (g : b = true → B) : (x = 0 → A) ∧ (¬ x = 0 → B) := by
  subst hx
  cases b
  · exact br_t rfl (f rfl)
  · exact br_f (by decide) (g rfl)
theorem cs_1nar (b : Bool) : vp_nar .boolean (cs_1 b) = cs_1 b := by cases b <;> rfl
theorem cs_1n (b : Bool) : narrow .boolean (.int (cs_1 b)) = .int (cs_1 b) := by cases b <;> rfl
theorem cs_nar1 : vp_nar .boolean 1 = cs_1 true := rfl
theorem cs_nar0 : vp_nar .boolean 0 = cs_1 false := rfl
/-! ===== indices ===== -/
theorem cs_ix40 (c w : Nat) : nI c * 40 + nI w = nI (c * 40 + w) := by
  rw [show (40 : Int32) = nI 40 from rfl, pk_mul, nI_add]
theorem cs_ix6 (c w : Nat) : nI c * 6 + nI w = nI (c * 6 + w) := by
  rw [show (6 : Int32) = nI 6 from rfl, pk_mul, nI_add]
theorem cs_cl {c : Nat} (h : c ≤ 2000) : (nI c).toNatClampNeg = c := nI_clamp (by omega)
theorem cs_cl40 {c w : Nat} (h : c * 40 + w ≤ 2000) : (nI c * 40 + nI w).toNatClampNeg = c * 40 + w := by rw [cs_ix40]; exact cs_cl h
theorem cs_cl6 {c w : Nat} (h : c * 6 + w ≤ 2000) : (nI c * 6 + nI w).toNatClampNeg = c * 6 + w := by rw [cs_ix6]; exact cs_cl h
def cs_out (x : Int32) (m : Nat) : Prop := x < 0 ∨ nI m ≤ x
theorem cs_io (x : Int32) (m : Nat) (hm : m ≤ 2000) : cs_out x m ∨ ∃ j, j < m ∧ x = nI j := by
  rcases pk_ix x (show m < 2 ^ 31 by omega) with h | h | h
  · exact Or.inl (Or.inl h)
  · exact Or.inl (Or.inr h)
  · exact Or.inr h
theorem cs_olt {x : Int32} {m : Nat} (h : nI m ≤ x) : ¬ x < nI m := Int32.not_lt.mpr h
end
section
/-! ===== the plain law: visible sets, winners, greatest stamps ===== -/
/-- T is what is visible among n versions: come, and all that it depends on visible -/
def cs_V (n : Nat) (D : Nat → Nat → Bool) (C T : Nat → Bool) : Prop := ∀ v, T v = true ↔ (v < n ∧ C v = true ∧ ∀ b, D v b = true → T b = true)
theorem cv_lt {n : Nat} {D : Nat → Nat → Bool} {C T : Nat → Bool} (h : cs_V n D C T) {v : Nat} (hv : n ≤ v) : T v = false := by
  cases e : T v
  · rfl
  · exact absurd ((h v).mp e).1 (by omega)
/-- x is the winner of the key k among T -/
def cs_B (K S : Nat → Int32) (T : Nat → Bool) (k : Int32) (x : Int32) : Prop :=
  (x = -5 ∧ ∀ v, T v = true → K v ≠ k) ∨ ∃ w, w < 40 ∧ x = nI w ∧ T w = true ∧ K w = k ∧ ∀ v, T v = true → K v = k → (S v < S w ∨ (S v = S w ∧ v ≤ w))
theorem cb_m5 {w : Nat} (hw : w < 40) : (-5 : Int32) ≠ nI w := by
  intro e
  have h := congrArg Int32.toInt e
  rw [nI_toInt (by omega)] at h
  have h2 : (-5 : Int32).toInt = -5 := by decide
  omega
theorem cb_un {K S : Nat → Int32} {T : Nat → Bool} {k x y : Int32} (hx : cs_B K S T k x) (hy : cs_B K S T k y) : x = y := by
  rcases hx with ⟨ex, hx⟩ | ⟨w, hw, ex, tw, kw, hx⟩
  · rcases hy with ⟨ey, _⟩ | ⟨z, _, ey, tz, kz, _⟩
    · rw [ex, ey]
    · exact absurd kz (hx z tz)
  · rcases hy with ⟨ey, hy⟩ | ⟨z, _, ey, tz, kz, hy⟩
    · exact absurd kw (hy w tw)
    · have a := hx z tz kz
      have b := hy w tw kw
      rw [ex, ey]
      rw [Int32.lt_iff_toInt_lt, ← Int32.toInt_inj] at a b
      congr 1
      omega
theorem cb_cg {K S K' S' : Nat → Int32} {T : Nat → Bool} {k x : Int32} (h : ∀ v, T v = true → K' v = K v ∧ S' v = S v) (hx : cs_B K S T k x) : cs_B K' S' T k x := by
  rcases hx with ⟨ex, hx⟩ | ⟨w, hw, ex, tw, kw, hx⟩
  · exact Or.inl ⟨ex, fun v tv => by rw [(h v tv).1]; exact hx v tv⟩
  · refine Or.inr ⟨w, hw, ex, tw, (h w tw).1.trans kw, fun v tv kv => ?_⟩
    rw [(h v tv).2, (h w tw).2]
    exact hx v tv ((h v tv).1.symm.trans kv)
theorem cb_T {K S : Nat → Int32} {T T' : Nat → Bool} {k x : Int32} (h : ∀ v, T' v = T v) (hx : cs_B K S T k x) : cs_B K S T' k x := by
  have e : T' = T := funext h
  rw [e]; exact hx
section
variable {K S : Nat → Int32} {T T' : Nat → Bool} {k x : Int32} {v : Nat}
theorem cb_other (hT : ∀ w, T' w = (T w || decide (w = v))) (hk : K v ≠ k) (h : cs_B K S T k x) : cs_B K S T' k x := by
  have key : ∀ z, T' z = true → K z = k → T z = true := by
    intro z hz kz
    rw [hT z] at hz
    by_cases e : z = v
    · exact absurd (e ▸ kz) hk
    · rw [decide_eq_false e, Bool.or_false] at hz; exact hz
  rcases h with ⟨ex, hx⟩ | ⟨w, hw, ex, tw, kw, hx⟩
  · exact Or.inl ⟨ex, fun z tz kz => hx z (key z tz kz) kz⟩
  · exact Or.inr ⟨w, hw, ex, by rw [hT w, tw]; rfl, kw, fun z tz kz => hx z (key z tz kz) kz⟩
theorem cb_keep {w : Nat} (hT : ∀ w, T' w = (T w || decide (w = v))) (ex : x = nI w) (hw : w < 40) (h : cs_B K S T k x) (hb : S v < S w ∨ (S v = S w ∧ v ≤ w)) : cs_B K S T' k x := by
  rcases h with ⟨e5, hx⟩ | ⟨z, hz, ez, tz, kz, hx⟩
  · exact absurd (e5.symm.trans ex) (cb_m5 hw)
  · have e : z = w := (nI_eq (by omega) (by omega)).mp (ez.symm.trans ex)
    subst e
    refine Or.inr ⟨z, hz, ez, by rw [hT z, tz]; rfl, kz, fun y ty ky => ?_⟩
    rw [hT y] at ty
    by_cases e : y = v
    · rw [e]; exact hb
    · rw [decide_eq_false e, Bool.or_false] at ty; exact hx y ty ky
theorem cb_new (hT : ∀ w, T' w = (T w || decide (w = v))) (hv : v < 40) (hk : K v = k) (h : cs_B K S T k x)
    (hb : ∀ w, w < 40 → x = nI w → S w < S v ∨ (S w = S v ∧ w ≤ v)) : cs_B K S T' k (nI v) := by
  refine Or.inr ⟨v, hv, rfl, by rw [hT v, decide_eq_true rfl, Bool.or_true], hk, fun y ty ky => ?_⟩
  rw [hT y] at ty
  by_cases e : y = v
  · exact Or.inr ⟨by rw [e], by omega⟩
  · rw [decide_eq_false e, Bool.or_false] at ty
    rcases h with ⟨e5, hx⟩ | ⟨z, hz, ez, tz, kz, hx⟩
    · exact absurd ky (hx y ty)
    · have a := hx y ty ky
      have b := hb z hz ez
      rw [Int32.lt_iff_toInt_lt, ← Int32.toInt_inj] at a b ⊢
      omega
end
/-- m is the greatest of 0 and the stamps of H -/
def cs_M (S : Nat → Int32) (H : Nat → Bool) (m : Int32) : Prop := 0 ≤ m ∧ (∀ v, H v = true → S v ≤ m) ∧ (m = 0 ∨ ∃ v, H v = true ∧ S v = m)
theorem cm_le {S : Nat → Int32} {H : Nat → Bool} {m m' : Int32} (h : cs_M S H m) (h' : cs_M S H m') : m ≤ m' := by
  obtain ⟨_, _, e | ⟨v, hv, e⟩⟩ := h
  · rw [e]; exact h'.1
  · rw [← e]; exact h'.2.1 v hv
theorem cm_un {S : Nat → Int32} {H : Nat → Bool} {m m' : Int32} (h : cs_M S H m) (h' : cs_M S H m') : m = m' := by
  have a := cm_le h h'
  have b := cm_le h' h
  rw [Int32.le_iff_toInt_le] at a b
  exact Int32.toInt_inj.mp (by omega)
theorem cm_cg {S S' : Nat → Int32} {H : Nat → Bool} {m : Int32} (h : ∀ v, H v = true → S' v = S v) (hm : cs_M S H m) : cs_M S' H m := by
  obtain ⟨a, b, c⟩ := hm
  refine ⟨a, fun v hv => by rw [h v hv]; exact b v hv, ?_⟩
  rcases c with e | ⟨v, hv, e⟩
  · exact Or.inl e
  · exact Or.inr ⟨v, hv, (h v hv).trans e⟩
theorem cm_H {S : Nat → Int32} {H H' : Nat → Bool} {m : Int32} (h : ∀ v, H' v = H v) (hm : cs_M S H m) : cs_M S H' m := by
  have e : H' = H := funext h
  rw [e]; exact hm
section
variable {S : Nat → Int32} {H H' : Nat → Bool} {m : Int32} {v : Nat}
theorem cm_keep (hH : ∀ w, H' w = (H w || decide (w = v))) (hb : S v ≤ m) (h : cs_M S H m) : cs_M S H' m := by
  obtain ⟨a, b, c⟩ := h
  refine ⟨a, fun w hw => ?_, ?_⟩
  · rw [hH w] at hw
    by_cases e : w = v
    · rw [e]; exact hb
    · rw [decide_eq_false e, Bool.or_false] at hw; exact b w hw
  · rcases c with e | ⟨w, hw, e⟩
    · exact Or.inl e
    · exact Or.inr ⟨w, by rw [hH w, hw]; rfl, e⟩
theorem cm_new (hH : ∀ w, H' w = (H w || decide (w = v))) (hb : ¬ S v ≤ m) (h : cs_M S H m) : cs_M S H' (S v) := by
  obtain ⟨a, b, c⟩ := h
  rw [Int32.le_iff_toInt_le] at hb
  refine ⟨?_, fun w hw => ?_, Or.inr ⟨v, by rw [hH v, decide_eq_true rfl, Bool.or_true], rfl⟩⟩
  · rw [Int32.le_iff_toInt_le] at a ⊢
    omega
  · rw [hH w] at hw
    by_cases e : w = v
    · rw [e]; exact Int32.le_refl _
    · rw [decide_eq_false e, Bool.or_false] at hw
      have z := b w hw
      rw [Int32.le_iff_toInt_le] at z ⊢
      omega
end
end
section
/-! ===== the reference: allNeeded, sweep ===== -/
section
variable {K V S nd yc hs P : Nat → Int32}
theorem ya_loop {post : Int32 → Prop} {sh : Nat → Int32} {n v : Nat} {Dv T : Nat → Bool} (hn : n ≤ 40) (hv : v < 40)
    (hD : ∀ b, b < 40 → nd (v * 40 + b) = cs_1 (Dv b)) (hT : ∀ b, b < n → Dv b = true → sh b = cs_1 (T b))
    (h1 : (∀ b, b < n → Dv b = true → T b = true) → post 1) (h0 : ∀ b, b < n → Dv b = true → T b = false → post 0) :
    ∀ d i, i + d = n → (∀ b, b < i → Dv b = true → T b = true) → ∀ f, d < f → wY_allNeeded_2 post (nI v) (nI n) K V S nd yc hs P sh f (nI i) := by
  intro d
  induction d with
  | zero =>
    intro i hi hb f hf
    obtain ⟨f, rfl⟩ : ∃ g, f = g + 1 := ⟨f - 1, by omega⟩
    exact br_t (nI_le (by omega) (by omega)) (h1 (fun b hbn => hb b (by omega)))
  | succ d ih =>
    intro i hi hb f hf
    obtain ⟨f, rfl⟩ : ∃ g, f = g + 1 := ⟨f - 1, by omega⟩
    refine br_f (nI_ge (by omega) (by omega)) (And.intro (pk_in (v * 40 + i) 1600 (by omega) (cs_ix40 v i)) ?_)
    refine cs_1br (b := Dv i) ((congrArg nd (cs_cl40 (by omega))).trans (hD i (by omega))) (fun hd => ?_) (fun hd => ?_)
    · refine nm_r (nI_1 i) (ih (i + 1) (by omega) (fun b hb1 hb2 => ?_) f (by omega))
      by_cases e : b = i
      · rw [e, hd] at hb2; exact absurd hb2 (by decide)
      · exact hb b (by omega) hb2
    · refine And.intro (pk_in i 40 (by omega)) ?_
      refine cs_1br (b := T i) ((congrArg sh (cs_cl (by omega))).trans (hT i (by omega) hd)) (fun ht => ?_) (fun ht => ?_)
      · exact h0 i (by omega) hd ht
      · refine nm_r (nI_1 i) (ih (i + 1) (by omega) (fun b hb1 hb2 => ?_) f (by omega))
        by_cases e : b = i
        · rw [e]; exact ht
        · exact hb b (by omega) hb2
theorem ya_all {post : Int32 → Prop} {sh : Nat → Int32} {n v : Nat} {Dv T : Nat → Bool} (hn : n ≤ 40) (hv : v < 40)
    (hD : ∀ b, b < 40 → nd (v * 40 + b) = cs_1 (Dv b)) (hT : ∀ b, b < n → Dv b = true → sh b = cs_1 (T b))
    (h1 : (∀ b, b < n → Dv b = true → T b = true) → post 1) (h0 : ∀ b, b < n → Dv b = true → T b = false → post 0) :
    wpY_allNeeded post (nI n, K, V, S, nd, yc, hs, P, sh) (nI v) :=
  Exists.intro (n + 1) (ya_loop hn hv hD hT h1 h0 n 0 (by omega) (fun b hb => absurd hb (by omega)) (n + 1) (by omega))
variable {c n : Nat} {D : Nat → Nat → Bool} {C T : Nat → Bool}
theorem ys_p1 {post : Int32 → SY → Prop} {J : Int32 → Int32 → Int32 → (Nat → Int32) → (Nat → Int32) → (Nat → Int32) → (Nat → Int32) → (Nat → Int32) → (Nat → Int32) → (Nat → Int32) → (Nat → Int32) → Prop} {x4 : Int32}
    (hc : c < 3) (hn : n ≤ 40) (hD : ∀ a b, a < n → b < 40 → nd (a * 40 + b) = cs_1 (D a b)) (hC : ∀ v, v < 40 → yc (c * 40 + v) = cs_1 (C v))
    (hlt : ∀ a b, a < n → D a b = true → b < a) (hV : cs_V n D C T)
    (hJ : ∀ (x3 : Int32) (sh : Nat → Int32), (x3 = 0 ∨ x3 = 1) → (∀ j, j < 40 → sh j = cs_1 (T j)) → J (nI (cs_n T n)) x3 (x4 + 1) K V S nd yc hs P sh) :
    ∀ d i, i + d = n → ∀ (x3 : Int32) (sh : Nat → Int32), (x3 = 0 ∨ x3 = 1) → (∀ j, j < i → sh j = cs_1 (T j)) → (∀ j, i ≤ j → j < 40 → sh j = 0) →
      ∀ f, d < f → wY_sweep_44 post J (nI c) x4 (nI n) f (nI (cs_n T i)) x3 (nI i) K V S nd yc hs P sh := by
  intro d
  induction d with
  | zero =>
    intro i hi x3 sh h3 hlo hhi f hf
    obtain ⟨f, rfl⟩ : ∃ g, f = g + 1 := ⟨f - 1, by omega⟩
    obtain rfl : i = n := by omega
    refine br_t (nI_le (by omega) (by omega)) (nm_e (hJ x3 sh h3 (fun j hj => ?_)))
    by_cases e : j < i
    · exact hlo j e
    · rw [hhi j (by omega) hj, cv_lt hV (show i ≤ j by omega)]; rfl
  | succ d ih =>
    intro i hi x3 sh h3 hlo hhi f hf
    obtain ⟨f, rfl⟩ : ∃ g, f = g + 1 := ⟨f - 1, by omega⟩
    have skip : T i = false → wY_sweep_44 post J (nI c) x4 (nI n) f (nI (cs_n T i)) x3 (nI (i + 1)) K V S nd yc hs P sh := by
      intro hT
      have e := ih (i + 1) (by omega) x3 sh h3 (fun j hj => ?_) (fun j h1 h2 => hhi j (by omega) h2) f (by omega)
      · rw [cn_sf hT] at e; exact e
      · by_cases e : j = i
        · rw [e, hhi i (by omega) (by omega), hT]; rfl
        · exact hlo j (by omega)
    refine br_f (nI_ge (by omega) (by omega)) (And.intro (pk_in i 40 (by omega)) ?_)
    refine br_t ((congrArg sh (cs_cl (by omega))).trans (hhi i (by omega) (by omega))) (And.intro (pk_in (c * 40 + i) 120 (by omega) (cs_ix40 c i)) ?_)
    refine cs_1br (b := C i) ((congrArg yc (cs_cl40 (by omega))).trans (hC i (by omega))) (fun hc0 => ?_) (fun hc1 => ?_)
    · refine nm_r (nI_1 i) (skip ?_)
      cases e : T i
      · rfl
      · exact absurd (((hV i).mp e).2.1.symm.trans hc0) (by decide)
    · refine ya_all (Dv := D i) (T := T) hn (by omega) (fun b hb => hD i b (by omega) hb) (fun b hb hd => hlo b (hlt i b (by omega) hd)) (fun hall => ?_) (fun b hb hd ht => ?_)
      · have hT : T i = true := (hV i).mpr ⟨by omega, hc1, fun b hd => hall b (by have := hlt i b (by omega) hd; omega) hd⟩
        have e1 : upd sh (nI i).toNatClampNeg (vp_nar .boolean 1) = upd sh i 1 := by rw [cs_cl (by omega)]; rfl
        refine br_f (by decide) (And.intro (pk_in i 40 (by omega)) (nm_r e1 (nm_r (nI_1 _) (nm_r (nI_1 i) ?_))))
        have e := ih (i + 1) (by omega) 1 (upd sh i 1) (Or.inr rfl) (fun j hj => ?_) (fun j h1 h2 => ?_) f (by omega)
        · rw [cn_st hT] at e; exact e
        · by_cases e : j = i
          · rw [e, pk_us, hT]; rfl
          · rw [pk_un e]; exact hlo j (by omega)
        · rw [pk_un (by omega)]; exact hhi j (by omega) h2
      · refine br_t rfl (nm_r (nI_1 i) (skip ?_))
        cases e : T i
        · rfl
        · exact absurd ((((hV i).mp e).2.2 b hd).symm.trans ht) (by decide)
theorem ys_p2 {post : Int32 → SY → Prop} {J : Int32 → Int32 → Int32 → (Nat → Int32) → (Nat → Int32) → (Nat → Int32) → (Nat → Int32) → (Nat → Int32) → (Nat → Int32) → (Nat → Int32) → (Nat → Int32) → Prop} {x2 x4 : Int32} {sh : Nat → Int32}
    (hc : c < 3) (hn : n ≤ 40) (hD : ∀ a b, a < n → b < 40 → nd (a * 40 + b) = cs_1 (D a b)) (hC : ∀ v, v < 40 → yc (c * 40 + v) = cs_1 (C v))
    (hlt : ∀ a b, a < n → D a b = true → b < a) (hV : cs_V n D C T) (hsh : ∀ j, j < 40 → sh j = cs_1 (T j))
    (hJ : J x2 0 (x4 + 1) K V S nd yc hs P sh) :
    ∀ d i, i + d = n → ∀ f, d < f → wY_sweep_44 post J (nI c) x4 (nI n) f x2 0 (nI i) K V S nd yc hs P sh := by
  intro d
  induction d with
  | zero =>
    intro i hi f hf
    obtain ⟨f, rfl⟩ : ∃ g, f = g + 1 := ⟨f - 1, by omega⟩
    exact br_t (nI_le (by omega) (by omega)) (nm_e hJ)
  | succ d ih =>
    intro i hi f hf
    obtain ⟨f, rfl⟩ : ∃ g, f = g + 1 := ⟨f - 1, by omega⟩
    have next := ih (i + 1) (by omega) f (by omega)
    refine br_f (nI_ge (by omega) (by omega)) (And.intro (pk_in i 40 (by omega)) ?_)
    refine cs_1br (b := T i) ((congrArg sh (cs_cl (by omega))).trans (hsh i (by omega))) (fun hT => ?_) (fun hT => nm_r (nI_1 i) next)
    refine And.intro (pk_in (c * 40 + i) 120 (by omega) (cs_ix40 c i)) ?_
    refine cs_1br (b := C i) ((congrArg yc (cs_cl40 (by omega))).trans (hC i (by omega))) (fun hc0 => nm_r (nI_1 i) next) (fun hc1 => ?_)
    refine ya_all (Dv := D i) (T := T) hn (by omega) (fun b hb => hD i b (by omega) hb) (fun b hb hd => hsh b (by omega)) (fun hall => ?_) (fun b hb hd ht => br_t rfl (nm_r (nI_1 i) next))
    have hT2 : T i = true := (hV i).mpr ⟨by omega, hc1, fun b hd => hall b (by have := hlt i b (by omega) hd; omega) hd⟩
    exact absurd (hT.symm.trans hT2) (by decide)
theorem ys_28 {post : Int32 → SY → Prop} {sh : Nat → Int32}
    (hc : c < 3) (hn : n ≤ 40) (hD : ∀ a b, a < n → b < 40 → nd (a * 40 + b) = cs_1 (D a b)) (hC : ∀ v, v < 40 → yc (c * 40 + v) = cs_1 (C v))
    (hlt : ∀ a b, a < n → D a b = true → b < a) (hV : cs_V n D C T) (hsh : ∀ j, j < 40 → sh j = 0)
    (hp : ∀ sh', (∀ j, j < 40 → sh' j = cs_1 (T j)) → post (nI (cs_n T n)) (nI n, K, V, S, nd, yc, hs, P, sh')) :
    wY_sweep_28 post (nI c) (nI n) 3 0 1 0 K V S nd yc hs P sh := by
  refine br_f (by decide) (br_f (by decide) (Exists.intro (n + 1) ?_))
  refine ys_p1 (D := D) (C := C) (T := T) hc hn hD hC hlt hV (fun x3 sh' h3 hsh' => ?_) n 0 (by omega) 0 sh (Or.inl rfl) (fun j hj => absurd hj (by omega)) (fun j _ hj => hsh j hj) (n + 1) (by omega)
  rcases h3 with rfl | rfl
  · exact br_f (by decide) (br_t rfl (hp sh' hsh'))
  · refine br_f (by decide) (br_f (by decide) (Exists.intro (n + 1) ?_))
    exact ys_p2 (D := D) (C := C) (T := T) hc hn hD hC hlt hV hsh' (br_f (by decide) (br_t rfl (hp sh' hsh'))) n 0 (by omega) (n + 1) (by omega)
theorem ys_clr {post : Int32 → SY → Prop} {x1 x2 fv : Int32}
    (hq : ∀ sh, (∀ j, j < 40 → sh j = 0) → ∃ n28, wY_sweep_28 post x1 fv n28 x2 1 0 K V S nd yc hs P sh) :
    ∀ d i, i + d = 40 → ∀ sh, (∀ j, j < i → sh j = 0) → ∀ f, d < f → wY_sweep_4 post x1 x2 fv f (nI i) K V S nd yc hs P sh := by
  intro d
  induction d with
  | zero =>
    intro i hi sh hlo f hf
    obtain ⟨f, rfl⟩ : ∃ g, f = g + 1 := ⟨f - 1, by omega⟩
    exact br_t (nI_le (a := 40) (by omega) (by omega)) (hq sh (fun j hj => hlo j (by omega)))
  | succ d ih =>
    intro i hi sh hlo f hf
    obtain ⟨f, rfl⟩ : ∃ g, f = g + 1 := ⟨f - 1, by omega⟩
    have e1 : upd sh (nI i).toNatClampNeg (vp_nar .boolean 0) = upd sh i 0 := by rw [cs_cl (by omega)]; rfl
    refine br_f (nI_ge (b := 40) (by omega) (by omega)) (And.intro (pk_in i 40 (by omega)) (nm_r e1 (nm_r (nI_1 i) (ih (i + 1) (by omega) _ (fun j hj => ?_) f (by omega)))))
    by_cases e : j = i
    · rw [e, pk_us]
    · rw [pk_un e]; exact hlo j (by omega)
/-- the sweep finds T, whatever the scratch array held -/
theorem ys_sweep {post : Int32 → SY → Prop} {sh : Nat → Int32}
    (hc : c < 3) (hn : n ≤ 40) (hD : ∀ a b, a < n → b < 40 → nd (a * 40 + b) = cs_1 (D a b)) (hC : ∀ v, v < 40 → yc (c * 40 + v) = cs_1 (C v))
    (hlt : ∀ a b, a < n → D a b = true → b < a) (hV : cs_V n D C T)
    (hp : ∀ sh', (∀ j, j < 40 → sh' j = cs_1 (T j)) → post (nI (cs_n T n)) (nI n, K, V, S, nd, yc, hs, P, sh')) :
    wpY_sweep post (nI n, K, V, S, nd, yc, hs, P, sh) (nI c) :=
  Exists.intro 41 (ys_clr (fun sh' h => Exists.intro 3 (ys_28 hc hn hD hC hlt hV h hp)) 40 0 (by omega) sh (fun j hj => absurd hj (by omega)) 41 (by omega))
end
end
section
/-! ===== the reference's methods over abstract sets ===== -/
/-- what the reference's arrays hold: D, C, H as zeros and ones -/
def cs_Y (n : Nat) (D C H : Nat → Nat → Bool) (nd yc hs : Nat → Int32) : Prop :=
  n ≤ 40 ∧ (∀ a b, a < n → D a b = true → b < a) ∧ (∀ a b, a < 40 → b < 40 → nd (a * 40 + b) = cs_1 (decide (a < n) && D a b)) ∧
  (∀ c v, c < 3 → v < 40 → yc (c * 40 + v) = cs_1 (C c v)) ∧ (∀ c v, c < 3 → v < 40 → hs (c * 40 + v) = cs_1 (H c v))
section
variable {fv : Int32} {K V S nd yc hs P sh : Nat → Int32} {c n k v : Nat} {D C H : Nat → Nat → Bool} {T : Nat → Bool}
theorem yg_three_i {post : Int32 → Prop} (hc : c < 3) (h : post 1) : wpY_three post (fv, K, V, S, nd, yc, hs, P, sh) (nI c) :=
  br_f (nI_pos (by omega)) (br_f (nI_ge (b := 3) hc (by omega)) h)
theorem yg_three_o {post : Int32 → Prop} {x : Int32} (ho : cs_out x 3) (h : post 0) : wpY_three post (fv, K, V, S, nd, yc, hs, P, sh) x := by
  by_cases hx : x < 0
  · exact br_t hx h
  · exact br_f hx (br_t (ho.resolve_left hx) h)
theorem yg_key_i {post : Int32 → Prop} (hc : k < 6) (h : post 1) : wpY_isKey post (fv, K, V, S, nd, yc, hs, P, sh) (nI k) :=
  br_f (nI_pos (by omega)) (br_f (nI_ge (b := 6) hc (by omega)) h)
theorem yg_key_o {post : Int32 → Prop} {x : Int32} (ho : cs_out x 6) (h : post 0) : wpY_isKey post (fv, K, V, S, nd, yc, hs, P, sh) x := by
  by_cases hx : x < 0
  · exact br_t hx h
  · exact br_f hx (br_t (ho.resolve_left hx) h)
theorem yg_ver_i {post : Int32 → Prop} (hn : n ≤ 40) (hv : v < n) (h : post 1) : wpY_isVersion post (nI n, K, V, S, nd, yc, hs, P, sh) (nI v) :=
  br_f (nI_pos (by omega)) (br_f (nI_ge hv (by omega)) h)
theorem yg_ver_o {post : Int32 → Prop} {x : Int32} (ho : cs_out x n) (h : post 0) : wpY_isVersion post (nI n, K, V, S, nd, yc, hs, P, sh) x := by
  by_cases hx : x < 0
  · exact br_t hx h
  · exact br_f hx (br_t (ho.resolve_left hx) h)
theorem ym_sweep {post : Int32 → SY → Prop} (hY : cs_Y n D C H nd yc hs) (hc : c < 3) (hV : cs_V n D (C c) T)
    (hp : ∀ sh', (∀ j, j < 40 → sh' j = cs_1 (T j)) → post (nI (cs_n T n)) (nI n, K, V, S, nd, yc, hs, P, sh')) :
    wpY_sweep post (nI n, K, V, S, nd, yc, hs, P, sh) (nI c) := by
  obtain ⟨hn, hlt, hD, hC, _⟩ := hY
  refine ys_sweep (D := D) (C := C c) (T := T) hc hn (fun a b ha hb => ?_) (fun v hv => hC c v hc hv) hlt hV hp
  rw [hD a b (by omega) hb, decide_eq_true ha, Bool.true_and]
/-! winner -/
theorem yw_loop {post : Int32 → SY → Prop} {kx : Int32} (hn : n ≤ 40) (hsh : ∀ j, j < 40 → sh j = cs_1 (T j)) (hT : ∀ v, n ≤ v → T v = false)
    (hp : ∀ x, cs_B K S T kx x → post x (nI n, K, V, S, nd, yc, hs, P, sh)) :
    ∀ d i, i + d = n → ∀ x, cs_B K S (fun v => decide (v < i) && T v) kx x → ∀ f, d < f → wY_winner_34 post kx (nI n) K V S nd yc hs P sh f x (nI i) := by
  intro d
  induction d with
  | zero =>
    intro i hi x hx f hf
    obtain ⟨f, rfl⟩ : ∃ g, f = g + 1 := ⟨f - 1, by omega⟩
    refine br_t (nI_le (by omega) (by omega)) (hp x (cb_T (fun v => ?_) hx))
    by_cases e : v < i
    · rw [decide_eq_true e, Bool.true_and]
    · rw [hT v (by omega), Bool.and_false]
  | succ d ih =>
    intro i hi x hx f hf
    obtain ⟨f, rfl⟩ : ∃ g, f = g + 1 := ⟨f - 1, by omega⟩
    have ek : K (nI i).toNatClampNeg = K i := congrArg K (cs_cl (by omega))
    have es : S (nI i).toNatClampNeg = S i := congrArg S (cs_cl (by omega))
    refine br_f (nI_ge (by omega) (by omega)) (And.intro (pk_in i 40 (by omega)) ?_)
    refine cs_1br (b := T i) ((congrArg sh (cs_cl (by omega))).trans (hsh i (by omega))) (fun ht => ?_) (fun ht => And.intro (pk_in i 40 (by omega)) ?_)
    · refine nm_r (nI_1 i) (ih (i + 1) (by omega) x (cb_T (fun v => ?_) hx) f (by omega))
      by_cases e : v = i
      · rw [e, ht, Bool.and_false, Bool.and_false]
      · rw [show decide (v < i + 1) = decide (v < i) from decide_eq_decide.mpr (by omega)]
    · have hU : ∀ w, (fun v => decide (v < i + 1) && T v) w = ((fun v => decide (v < i) && T v) w || decide (w = i)) := by
        intro w
        show (decide (w < i + 1) && T w) = ((decide (w < i) && T w) || decide (w = i))
        by_cases e : w = i
        · rw [e, ht, decide_eq_true (show i < i + 1 by omega), decide_eq_true rfl, Bool.or_true]; rfl
        · rw [decide_eq_false e, Bool.or_false, show decide (w < i + 1) = decide (w < i) from decide_eq_decide.mpr (by omega)]
      by_cases hk : K i = kx
      · refine br_t (ek.trans hk) ?_
        have hx' := hx
        rcases hx with ⟨ex, _⟩ | ⟨w, hw, ex, tw, _, _⟩
        · refine br_t (by rw [ex]; decide) (nm_r (nI_1 i) (ih (i + 1) (by omega) (nI i) (cb_new hU (by omega) hk hx' (fun w hw ew => ?_)) f (by omega)))
          exact absurd (ex.symm.trans ew) (cb_m5 hw)
        · have hwi : w < i := by
            have tw : (decide (w < i) && T w) = true := tw
            rw [Bool.and_eq_true] at tw
            exact of_decide_eq_true tw.1
          have ew : S (nI w).toNatClampNeg = S w := congrArg S (cs_cl (by omega))
          subst ex
          refine br_f (nI_pos (by omega)) (And.intro (pk_in i 40 (by omega)) (And.intro (pk_in w 40 hw) ?_))
          by_cases hs2 : S i < S w
          · exact br_t (by rw [es, ew]; exact hs2) (nm_r (nI_1 i) (ih (i + 1) (by omega) (nI w) (cb_keep hU rfl hw hx' (Or.inl hs2)) f (by omega)))
          · refine br_f (by rw [es, ew]; exact hs2) (nm_r (nI_1 i) (ih (i + 1) (by omega) (nI i) (cb_new hU (by omega) hk hx' (fun z hz ez => ?_)) f (by omega)))
            have e : w = z := (nI_eq (by omega) (by omega)).mp ez
            subst e
            rw [Int32.lt_iff_toInt_lt] at hs2
            rw [Int32.lt_iff_toInt_lt, ← Int32.toInt_inj]
            omega
      · exact br_f (fun z => hk (ek.symm.trans z)) (nm_r (nI_1 i) (ih (i + 1) (by omega) x (cb_other hU hk hx) f (by omega)))
theorem ym_winner {post : Int32 → SY → Prop} (hY : cs_Y n D C H nd yc hs) (hc : c < 3) (hk : k < 6) (hV : cs_V n D (C c) T)
    (hp : ∀ x sh', cs_B K S T (nI k) x → post x (nI n, K, V, S, nd, yc, hs, P, sh')) :
    wpY_winner post (nI n, K, V, S, nd, yc, hs, P, sh) (nI c) (nI k) := by
  unfold wpY_winner
  dsimp only
  refine yg_three_i hc ?_
  refine br_f (by decide) ?_
  refine yg_key_i hk ?_
  refine br_f (by decide) ?_
  refine ym_sweep hY hc hV (fun sh' hsh => ?_)
  refine Exists.intro (n + 1) (yw_loop hY.1 hsh (fun v hv => cv_lt hV hv) (fun x hx => hp x sh' hx) n 0 (by omega) (-5) (Or.inl ⟨rfl, fun v hv => ?_⟩) (n + 1) (by omega))
  have hv : (decide (v < 0) && T v) = true := hv
  rw [decide_eq_false (by omega), Bool.false_and] at hv
  exact absurd hv (by decide)
/-! move -/
theorem ym_move {post : Int32 → SY → Prop} {cl : Nat} {x2 : Int32} {Hc : Nat → Bool} (hcl : cl < 3) (hn : n ≤ 40) (hH : ∀ v, v < 40 → hs (cl * 40 + v) = cs_1 (Hc v)) (hsh : ∀ j, j < 40 → sh j = cs_1 (T j))
    (h0 : (∀ v, v < n → Hc v = true → T v = true) → post 0 (nI n, K, V, S, nd, yc, hs, upd P cl x2, sh))
    (h7 : ∀ v, v < n → Hc v = true → T v = false → post (-7) (nI n, K, V, S, nd, yc, hs, P, sh)) :
    ∀ d i, i + d = n → (∀ v, v < i → Hc v = true → T v = true) → ∀ f, d < f → wY_move_29 post (nI cl) x2 (nI n) K V S nd yc hs P sh f (nI i) := by
  intro d
  induction d with
  | zero =>
    intro i hi hb f hf
    obtain ⟨f, rfl⟩ : ∃ g, f = g + 1 := ⟨f - 1, by omega⟩
    refine br_t (nI_le (by omega) (by omega)) (And.intro (pk_in cl 3 hcl) (nm_r (e' := upd P cl x2) (by rw [cs_cl (by omega)]) (h0 (fun v hv => hb v (by omega)))))
  | succ d ih =>
    intro i hi hb f hf
    obtain ⟨f, rfl⟩ : ∃ g, f = g + 1 := ⟨f - 1, by omega⟩
    refine br_f (nI_ge (by omega) (by omega)) (And.intro (pk_in (cl * 40 + i) 120 (by omega) (cs_ix40 cl i)) ?_)
    refine cs_1br (b := Hc i) ((congrArg hs (cs_cl40 (by omega))).trans (hH i (by omega))) (fun hd => ?_) (fun hd => ?_)
    · refine nm_r (nI_1 i) (ih (i + 1) (by omega) (fun b hb1 hb2 => ?_) f (by omega))
      by_cases e : b = i
      · rw [e, hd] at hb2; exact absurd hb2 (by decide)
      · exact hb b (by omega) hb2
    · refine And.intro (pk_in i 40 (by omega)) ?_
      refine cs_1br (b := T i) ((congrArg sh (cs_cl (by omega))).trans (hsh i (by omega))) (fun ht => ?_) (fun ht => ?_)
      · exact h7 i (by omega) hd ht
      · refine nm_r (nI_1 i) (ih (i + 1) (by omega) (fun b hb1 hb2 => ?_) f (by omega))
        by_cases e : b = i
        · rw [e]; exact ht
        · exact hb b (by omega) hb2
/-! held, seen -/
theorem ym_held {post : Int32 → SY → Prop} {Cc : Nat → Bool} (hc : c < 3) (hn : n ≤ 40) (hC : ∀ v, v < 40 → yc (c * 40 + v) = cs_1 (Cc v)) (hsh : ∀ j, j < 40 → sh j = cs_1 (T j))
    (hp : post (nI (cs_n (fun v => Cc v && !T v) n)) (nI n, K, V, S, nd, yc, hs, P, sh)) :
    ∀ d i, i + d = n → ∀ f, d < f → wY_held_21 post (nI c) (nI n) K V S nd yc hs P sh f (nI (cs_n (fun v => Cc v && !T v) i)) (nI i) := by
  intro d
  induction d with
  | zero =>
    intro i hi f hf
    obtain ⟨f, rfl⟩ : ∃ g, f = g + 1 := ⟨f - 1, by omega⟩
    obtain rfl : i = n := by omega
    exact br_t (nI_le (by omega) (by omega)) hp
  | succ d ih =>
    intro i hi f hf
    obtain ⟨f, rfl⟩ : ∃ g, f = g + 1 := ⟨f - 1, by omega⟩
    have next := ih (i + 1) (by omega) f (by omega)
    refine br_f (nI_ge (by omega) (by omega)) (And.intro (pk_in (c * 40 + i) 120 (by omega) (cs_ix40 c i)) ?_)
    refine cs_1br (b := Cc i) ((congrArg yc (cs_cl40 (by omega))).trans (hC i (by omega))) (fun hd => ?_) (fun hd => And.intro (pk_in i 40 (by omega)) ?_)
    · rw [cn_sf (p := fun v => Cc v && !T v) (show (Cc i && !T i) = false by rw [hd]; rfl)] at next
      exact nm_r (nI_1 i) next
    · refine cs_1br (b := T i) ((congrArg sh (cs_cl (by omega))).trans (hsh i (by omega))) (fun ht => ?_) (fun ht => ?_)
      · rw [cn_st (p := fun v => Cc v && !T v) (show (Cc i && !T i) = true by rw [hd, ht]; rfl)] at next
        exact nm_r (nI_1 _) (nm_r (nI_1 i) next)
      · rw [cn_sf (p := fun v => Cc v && !T v) (show (Cc i && !T i) = false by rw [hd, ht]; rfl)] at next
        exact nm_r (nI_1 i) next
theorem ym_seen {post : Int32 → Prop} {Hc : Nat → Bool} (hc : c < 3) (hn : n ≤ 40) (hH : ∀ v, v < 40 → hs (c * 40 + v) = cs_1 (Hc v))
    (hp : post (nI (cs_n Hc n))) :
    ∀ d i, i + d = n → ∀ f, d < f → wY_seen_14 post (nI c) (nI n) K V S nd yc hs P sh f (nI (cs_n Hc i)) (nI i) := by
  intro d
  induction d with
  | zero =>
    intro i hi f hf
    obtain ⟨f, rfl⟩ : ∃ g, f = g + 1 := ⟨f - 1, by omega⟩
    obtain rfl : i = n := by omega
    exact br_t (nI_le (by omega) (by omega)) hp
  | succ d ih =>
    intro i hi f hf
    obtain ⟨f, rfl⟩ : ∃ g, f = g + 1 := ⟨f - 1, by omega⟩
    have next := ih (i + 1) (by omega) f (by omega)
    refine br_f (nI_ge (by omega) (by omega)) (And.intro (pk_in (c * 40 + i) 120 (by omega) (cs_ix40 c i)) ?_)
    refine cs_1br (b := Hc i) ((congrArg hs (cs_cl40 (by omega))).trans (hH i (by omega))) (fun hd => ?_) (fun hd => ?_)
    · rw [cn_sf hd] at next
      exact nm_r (nI_1 i) next
    · rw [cn_st hd] at next
      exact nm_r (nI_1 _) (nm_r (nI_1 i) next)
/-! deliverAll -/
theorem ym_all {post : Int32 → SY → Prop} {x2 : Int32} (hc : c < 3) (hn : n ≤ 40) {yc0 : Nat → Int32}
    (hq : ∀ yc', (∀ j, j < n → yc' (c * 40 + j) = 1) → (∀ x, (x < c * 40 ∨ c * 40 + n ≤ x) → yc' x = yc0 x) → ∃ C', cs_Y n D C' H nd yc' hs ∧ cs_V n D (C' c) T ∧ ∀ sh', post (nI (cs_n T n) - x2) (nI n, K, V, S, nd, yc', hs, P, sh')) :
    ∀ d i, i + d = n → ∀ yc, (∀ j, j < i → yc (c * 40 + j) = 1) → (∀ x, (x < c * 40 ∨ c * 40 + i ≤ x) → yc x = yc0 x) → ∀ f, d < f → wY_deliverAll_19 post (nI c) x2 (nI n) f (nI i) K V S nd yc hs P sh := by
  intro d
  induction d with
  | zero =>
    intro i hi yc h1 h2 f hf
    obtain ⟨f, rfl⟩ : ∃ g, f = g + 1 := ⟨f - 1, by omega⟩
    obtain rfl : i = n := by omega
    obtain ⟨C', hY, hV, hp⟩ := hq yc h1 h2
    exact br_t (nI_le (by omega) (by omega)) (ym_sweep hY hc hV (fun sh' _ => hp sh'))
  | succ d ih =>
    intro i hi yc h1 h2 f hf
    obtain ⟨f, rfl⟩ : ∃ g, f = g + 1 := ⟨f - 1, by omega⟩
    have e1 : upd yc (nI c * 40 + nI i).toNatClampNeg (vp_nar .boolean 1) = upd yc (c * 40 + i) 1 := by rw [cs_cl40 (by omega)]; rfl
    refine br_f (nI_ge (by omega) (by omega)) (And.intro (pk_in (c * 40 + i) 120 (by omega) (cs_ix40 c i)) (nm_r e1 (nm_r (nI_1 i) (ih (i + 1) (by omega) _ (fun j hj => ?_) (fun x hx => ?_) f (by omega)))))
    · by_cases e : j = i
      · rw [e, pk_us]
      · rw [pk_un (by omega)]; exact h1 j (by omega)
    · rw [pk_un (by omega)]; exact h2 x (by omega)
/-! agree -/
theorem ym_agree {post : Int32 → SY → Prop} {a b : Nat} {B1 B2 : Nat → Int32} {T1 T2 : Nat → Bool} (hY : cs_Y n D C H nd yc hs) (ha : a < 3) (hb : b < 3) (hV1 : cs_V n D (C a) T1) (hV2 : cs_V n D (C b) T2)
    (h1 : ∀ k, k < 6 → cs_B K S T1 (nI k) (B1 k)) (h2 : ∀ k, k < 6 → cs_B K S T2 (nI k) (B2 k))
    (hp : ∀ sh', post (nI (cs_n (fun k => decide (B1 k = B2 k)) 6)) (nI n, K, V, S, nd, yc, hs, P, sh')) :
    ∀ d i, i + d = 6 → ∀ sh f, d < f → wY_agree_24 post (nI a) (nI b) f (nI (cs_n (fun k => decide (B1 k = B2 k)) i)) (nI i) (nI n) K V S nd yc hs P sh := by
  intro d
  induction d with
  | zero =>
    intro i hi sh f hf
    obtain ⟨f, rfl⟩ : ∃ g, f = g + 1 := ⟨f - 1, by omega⟩
    obtain rfl : i = 6 := by omega
    exact br_t (nI_le (a := 6) (by omega) (by omega)) (hp sh)
  | succ d ih =>
    intro i hi sh f hf
    obtain ⟨f, rfl⟩ : ∃ g, f = g + 1 := ⟨f - 1, by omega⟩
    refine br_f (nI_ge (b := 6) (by omega) (by omega)) ?_
    refine ym_winner hY ha (show i < 6 by omega) hV1 (fun x sh1 hx => ?_)
    refine ym_winner hY hb (show i < 6 by omega) hV2 (fun y sh2 hy => ?_)
    have next := ih (i + 1) (by omega) sh2 f (by omega)
    have ex : x = B1 i := cb_un hx (h1 i (by omega))
    have ey : y = B2 i := cb_un hy (h2 i (by omega))
    subst ex ey
    by_cases e : B1 i = B2 i
    · rw [cn_st (p := fun k => decide (B1 k = B2 k)) (decide_eq_true e)] at next
      exact br_t e (nm_r (nI_1 _) (nm_r (nI_1 i) next))
    · rw [cn_sf (p := fun k => decide (B1 k = B2 k)) (decide_eq_false e)] at next
      exact br_f e (nm_r (nI_1 i) next)
/-! write -/
theorem ym_write {post : Int32 → SY → Prop} {cl p : Nat} {x2 x3 : Int32} {Hc : Nat → Bool} {nd0 : Nat → Int32} (hcl : cl < 3) (hp3 : p < 3) (hP : P cl = nI p) (hn : n < 40) (hH : ∀ v, v < 40 → hs (cl * 40 + v) = cs_1 (Hc v))
    (hHn : ∀ v, Hc v = true → v < n)
    (hp : ∀ nd' m, (∀ b, b < n → nd' (n * 40 + b) = cs_1 (Hc b)) → (∀ x, (x < n * 40 ∨ n * 40 + n ≤ x) → nd' x = nd0 x) → cs_M S Hc m →
      post (nI n) (nI (n + 1), upd K n x2, upd V n x3, upd S n (m + 1), nd', upd yc (p * 40 + n) 1, upd hs (cl * 40 + n) 1, P, sh)) :
    ∀ d i, i + d = n → ∀ nd m, (∀ b, b < i → nd (n * 40 + b) = cs_1 (Hc b)) → (∀ x, (x < n * 40 ∨ n * 40 + i ≤ x) → nd x = nd0 x) → cs_M S (fun v => decide (v < i) && Hc v) m →
      ∀ f, d < f → wY_write_39 post (nI cl) x2 x3 (nI n) f m (nI i) K V S nd yc hs P sh := by
  intro d
  induction d with
  | zero =>
    intro i hi nd m h1 h2 hm f hf
    obtain ⟨f, rfl⟩ : ∃ g, f = g + 1 := ⟨f - 1, by omega⟩
    obtain rfl : i = n := by omega
    have eP : P (nI cl).toNatClampNeg = nI p := by rw [cs_cl (by omega)]; exact hP
    have e1 : upd yc (P (nI cl).toNatClampNeg * 40 + nI i).toNatClampNeg (vp_nar .boolean 1) = upd yc (p * 40 + i) 1 := by rw [eP, cs_cl40 (by omega)]; rfl
    have e2 : upd hs (nI cl * 40 + nI i).toNatClampNeg (vp_nar .boolean 1) = upd hs (cl * 40 + i) 1 := by rw [cs_cl40 (by omega)]; rfl
    refine br_t (nI_le (by omega) (by omega)) ?_
    refine And.intro (pk_in i 40 hn) (nm_r (e' := upd K i x2) (by rw [cs_cl (by omega)]) ?_)
    refine And.intro (pk_in i 40 hn) (nm_r (e' := upd V i x3) (by rw [cs_cl (by omega)]) ?_)
    refine And.intro (pk_in i 40 hn) (nm_r (e' := upd S i (m + 1)) (by rw [cs_cl (by omega)]) ?_)
    refine And.intro (pk_in cl 3 hcl) ?_
    refine And.intro (pk_in (p * 40 + i) 120 (by omega) (by rw [eP]; exact cs_ix40 p i)) (nm_r e1 ?_)
    refine And.intro (pk_in (cl * 40 + i) 120 (by omega) (cs_ix40 cl i)) (nm_r e2 ?_)
    refine nm_r (nI_1 i) ?_
    rw [nI_pred i]
    refine hp nd m h1 h2 (cm_H (fun v => ?_) hm)
    show Hc v = (decide (v < i) && Hc v)
    cases e : Hc v
    · rw [Bool.and_false]
    · rw [decide_eq_true (hHn v e)]; rfl
  | succ d ih =>
    intro i hi nd m h1 h2 hm f hf
    obtain ⟨f, rfl⟩ : ∃ g, f = g + 1 := ⟨f - 1, by omega⟩
    have eh : hs (nI cl * 40 + nI i).toNatClampNeg = cs_1 (Hc i) := (congrArg hs (cs_cl40 (by omega))).trans (hH i (by omega))
    have es : S (nI i).toNatClampNeg = S i := congrArg S (cs_cl (by omega))
    have e1 : upd nd (nI n * 40 + nI i).toNatClampNeg (vp_nar .boolean (hs (nI cl * 40 + nI i).toNatClampNeg)) = upd nd (n * 40 + i) (cs_1 (Hc i)) := by rw [eh, cs_1nar, cs_cl40 (by omega)]
    have n1 : ∀ b, b < i + 1 → upd nd (n * 40 + i) (cs_1 (Hc i)) (n * 40 + b) = cs_1 (Hc b) := by
      intro b hb
      by_cases e : b = i
      · rw [e, pk_us]
      · rw [pk_un (by omega)]; exact h1 b (by omega)
    have n2 : ∀ x, (x < n * 40 ∨ n * 40 + (i + 1) ≤ x) → upd nd (n * 40 + i) (cs_1 (Hc i)) x = nd0 x := by
      intro x hx
      rw [pk_un (by omega)]; exact h2 x (by omega)
    refine br_f (nI_ge (by omega) (by omega)) (And.intro (pk_in (cl * 40 + i) 120 (by omega) (cs_ix40 cl i)) ?_)
    refine And.intro (pk_in (n * 40 + i) 1600 (by omega) (cs_ix40 n i)) (nm_r e1 ?_)
    refine And.intro (pk_in (cl * 40 + i) 120 (by omega) (cs_ix40 cl i)) ?_
    refine cs_1br (b := Hc i) eh (fun ht => ?_) (fun ht => And.intro (pk_in i 40 (by omega)) ?_)
    · refine nm_r (nI_1 i) (ih (i + 1) (by omega) _ m n1 n2 (cm_H (fun v => ?_) hm) f (by omega))
      show (decide (v < i + 1) && Hc v) = (decide (v < i) && Hc v)
      by_cases e : v = i
      · rw [e, ht, Bool.and_false, Bool.and_false]
      · rw [show decide (v < i + 1) = decide (v < i) from decide_eq_decide.mpr (by omega)]
    · have hU : ∀ w, (fun v => decide (v < i + 1) && Hc v) w = ((fun v => decide (v < i) && Hc v) w || decide (w = i)) := by
        intro w
        show (decide (w < i + 1) && Hc w) = ((decide (w < i) && Hc w) || decide (w = i))
        by_cases e : w = i
        · rw [e, ht, decide_eq_true (show i < i + 1 by omega), decide_eq_true rfl, Bool.or_true]; rfl
        · rw [decide_eq_false e, Bool.or_false, show decide (w < i + 1) = decide (w < i) from decide_eq_decide.mpr (by omega)]
      by_cases hb : S i ≤ m
      · exact br_t (by rw [es]; exact hb) (nm_r (nI_1 i) (ih (i + 1) (by omega) _ m n1 n2 (cm_keep hU hb hm) f (by omega)))
      · exact br_f (by rw [es]; exact hb) (And.intro (pk_in i 40 (by omega)) (nm_r es (nm_r (nI_1 i) (ih (i + 1) (by omega) _ (S i) n1 n2 (cm_new hU hb hm) f (by omega)))))
end
end
section
/-! ===== the component: guards, has, bits, beats, lower, see ===== -/
section
variable {fv fc : Int32} {K V S : Nat → Int32} {dep come shown : Nat → Int64} {lk best P : Nat → Int32} {seen : Nat → Int64} {sst ch : Nat → Int32} {n c v k : Nat}
theorem xg_cl_i {post : Int32 → Prop} (hc : c < 3) (h : post 0) : wpX_badClient post (nI c) :=
  br_f (nI_pos (by omega)) (br_t (nI_le (b := 2) (by omega) (by omega)) h)
theorem xg_cl_o {post : Int32 → Prop} {x : Int32} (ho : cs_out x 3) (h : post 1) : wpX_badClient post x := by
  by_cases hx : x < 0
  · exact br_t hx h
  · have h3 := ho.resolve_left hx
    refine br_f hx (br_f (fun z => ?_) h)
    rw [Int32.le_iff_toInt_le] at z h3
    have a : (nI 3).toInt = 3 := by decide
    have b : (2 : Int32).toInt = 2 := by decide
    omega
theorem xg_ce_i {post : Int32 → Prop} (hc : c < 3) (h : post 0) : wpX_badCentre post (nI c) :=
  br_f (nI_pos (by omega)) (br_t (nI_lt (b := 3) (by omega) (by omega)) h)
theorem xg_ce_o {post : Int32 → Prop} {x : Int32} (ho : cs_out x 3) (h : post 1) : wpX_badCentre post x := by
  by_cases hx : x < 0
  · exact br_t hx h
  · exact br_f hx (br_f (cs_olt (m := 3) (ho.resolve_left hx)) h)
theorem xg_ver_i {post : Int32 → Prop} (hn : n ≤ 40) (hv : v < n) (h : post 0) : wpX_noVersion post (nI n, fc, K, V, S, dep, come, shown, lk, best, P, seen, sst, ch) (nI v) :=
  br_f (nI_pos (by omega)) (br_t (nI_lt hv (by omega)) h)
theorem xg_ver_o {post : Int32 → Prop} {x : Int32} (ho : cs_out x n) (h : post 1) : wpX_noVersion post (nI n, fc, K, V, S, dep, come, shown, lk, best, P, seen, sst, ch) x := by
  by_cases hx : x < 0
  · exact br_t hx h
  · exact br_f hx (br_f (cs_olt (ho.resolve_left hx)) h)
theorem xg_key_i {A B : Prop} (hk : k < 6) (h : B) : (nI k < 0 → A) ∧ (¬ nI k < 0 → ((nI k < 6 → B) ∧ (¬ nI k < 6 → A))) :=
  br_f (nI_pos (by omega)) (br_t (nI_lt (b := 6) hk (by omega)) h)
theorem xg_key_o {A B : Prop} {x : Int32} (ho : cs_out x 6) (h : A) : (x < 0 → A) ∧ (¬ x < 0 → ((x < 6 → B) ∧ (¬ x < 6 → A))) := by
  by_cases hx : x < 0
  · exact br_t hx h
  · exact br_f hx (br_f (cs_olt (m := 6) (ho.resolve_left hx)) h)
theorem xh_has {post : Int32 → Prop} {w w' : Int64} {j : Nat} (e : w = w') (hj : j < 64) (h1 : cs_bl w' j = true → post 1) (h0 : cs_bl w' j = false → post 0) : wpX_has post w (nI j) := by
  subst e
  exact And.intro (fun h => h1 ((cs_has w hj).mp h)) (fun h => h0 (ts_nt (fun z => h ((cs_has w hj).mpr z))))
theorem xb_loop {post : Int32 → Prop} {w : Int64} (hp : post (nI (cs_n (cs_bl w) 40))) : ∀ d i, i + d = 40 → ∀ f, d < f → wX_bits_4 post w f (nI (cs_n (cs_bl w) i)) (nI i) := by
  intro d
  induction d with
  | zero =>
    intro i hi f hf
    obtain ⟨f, rfl⟩ : ∃ g, f = g + 1 := ⟨f - 1, by omega⟩
    obtain rfl : i = 40 := by omega
    exact br_t (nI_le (a := 40) (by omega) (by omega)) hp
  | succ d ih =>
    intro i hi f hf
    obtain ⟨f, rfl⟩ : ∃ g, f = g + 1 := ⟨f - 1, by omega⟩
    have next := ih (i + 1) (by omega) f (by omega)
    refine br_f (nI_ge (b := 40) (by omega) (by omega)) ?_
    cases e : cs_bl w i
    · rw [cn_sf e] at next
      exact br_f (fun z => absurd (e.symm.trans ((cs_has w (by omega)).mp z)) (by decide)) (nm_r (nI_1 i) next)
    · rw [cn_st e] at next
      exact br_t ((cs_has w (by omega)).mpr e) (nm_r (nI_1 _) (nm_r (nI_1 i) next))
theorem xb_bits {post : Int32 → Prop} {w : Int64} (hp : post (nI (cs_n (cs_bl w) 40))) : wpX_bits post w :=
  Exists.intro 41 (xb_loop hp 40 0 (by omega) 41 (by omega))
theorem xb_beats {post : Int32 → Prop} {x : Int32} (hv : v < 40) (hx : x = -5 ∨ ∃ w, w < 40 ∧ x = nI w)
    (h1 : (∀ w, w < 40 → x = nI w → S w < S v ∨ (S w = S v ∧ w ≤ v)) → post 1)
    (h0 : ∀ w, w < 40 → x = nI w → (S v < S w ∨ (S v = S w ∧ v ≤ w)) → post 0) :
    wpX_beats post (fv, fc, K, V, S, dep, come, shown, lk, best, P, seen, sst, ch) (nI v) x := by
  rcases hx with ex | ⟨w, hw, ex⟩
  · subst ex
    exact br_f (by decide) (h1 (fun w hw e => absurd e (cb_m5 hw)))
  · have ev : S (nI v).toNatClampNeg = S v := congrArg S (cs_cl (by omega))
    have ew : S (nI w).toNatClampNeg = S w := congrArg S (cs_cl (by omega))
    subst ex
    have h1' : (S w < S v ∨ (S w = S v ∧ w ≤ v)) → post 1 := by
      intro h
      refine h1 (fun z hz ez => ?_)
      have e : w = z := (nI_eq (by omega) (by omega)).mp ez
      subst e
      exact h
    refine br_t (nI_pos' (by omega)) (And.intro (pk_in v 40 hv) (And.intro (pk_in w 40 hw) ?_))
    by_cases e : S v = S w
    · refine br_t (by rw [ev, ew]; exact e) ?_
      by_cases l : v ≤ w
      · exact br_t (nI_le l (by omega)) (h0 w hw rfl (Or.inr ⟨e, l⟩))
      · exact br_f (nI_ge (by omega) (by omega)) (h1' (Or.inr ⟨e.symm, by omega⟩))
    · refine br_f (by rw [ev, ew]; exact e) (And.intro (pk_in v 40 hv) (And.intro (pk_in w 40 hw) ?_))
      rw [← Int32.toInt_inj] at e
      by_cases l : S v ≤ S w
      · refine br_t (by rw [ev, ew]; exact l) (h0 w hw rfl (Or.inl ?_))
        rw [Int32.le_iff_toInt_le] at l
        rw [Int32.lt_iff_toInt_lt]
        omega
      · refine br_f (by rw [ev, ew]; exact l) (h1' (Or.inl ?_))
        rw [Int32.le_iff_toInt_le] at l
        rw [Int32.lt_iff_toInt_lt]
        omega
theorem xl_lower {post : SX → Prop} {m w : Nat} {y : Int32} (hc : c < 3) (hw : w < 40) (hm40 : m ≤ 40) (hy : lk (c * 40 + w) - 1 = y)
    (hm : y = 0 → m < 40)
    (h0 : y = 0 → post (fv, nI (m + 1), K, V, S, dep, come, shown, upd lk (c * 40 + w) y, best, P, seen, sst, upd ch m (nI w)))
    (h1 : ¬ y = 0 → post (fv, nI m, K, V, S, dep, come, shown, upd lk (c * 40 + w) y, best, P, seen, sst, ch)) :
    wpX_lower post (fv, nI m, K, V, S, dep, come, shown, lk, best, P, seen, sst, ch) (nI c) (nI w) := by
  have hin : vp_in (nI c * 40 + nI w) 120 := pk_in (c * 40 + w) 120 (by omega) (cs_ix40 c w)
  have e1 : upd lk (nI c * 40 + nI w).toNatClampNeg (lk (nI c * 40 + nI w).toNatClampNeg - 1) = upd lk (c * 40 + w) y := by rw [cs_cl40 (by omega), hy]
  have e2 : upd lk (c * 40 + w) y (nI c * 40 + nI w).toNatClampNeg = y := by rw [cs_cl40 (by omega), pk_us]
  refine And.intro hin (And.intro hin (nm_r e1 (And.intro hin ?_)))
  by_cases z : y = 0
  · exact br_t (e2.trans z) (And.intro (pk_in m 40 (hm z)) (nm_r (e' := upd ch m (nI w)) (by rw [cs_cl (by omega)]) (nm_r (nI_1 m) (h0 z))))
  · exact br_f (fun t => z (e2.symm.trans t)) (h1 z)
theorem xs_see {post : SX → Prop} (hc : c < 3) (hv : v < 40)
    (hp : ∀ seen' sst', (∀ w, cs_bl (seen' c) w = (cs_bl (seen c) w || decide (w = v))) → (∀ x, x ≠ c → seen' x = seen x) → (∀ x, x ≠ c → sst' x = sst x) →
      (cs_M S (cs_bl (seen c)) (sst c) → cs_M S (cs_bl (seen' c)) (sst' c)) → post (fv, fc, K, V, S, dep, come, shown, lk, best, P, seen', sst', ch)) :
    wpX_see post (fv, fc, K, V, S, dep, come, shown, lk, best, P, seen, sst, ch) (nI c) (nI v) := by
  have hin : vp_in (nI c) 3 := pk_in c 3 hc
  have hiv : vp_in (nI v) 40 := pk_in v 40 hv
  have ec : (nI c).toNatClampNeg = c := cs_cl (by omega)
  have ev : S (nI v).toNatClampNeg = S v := congrArg S (cs_cl (by omega))
  have em : sst (nI c).toNatClampNeg = sst c := congrArg sst ec
  have e1 : vp_updL seen (nI c).toNatClampNeg (seen (nI c).toNatClampNeg ||| ((1 : Int64) <<< ((nI v).toInt64 &&& 63))) = vp_updL seen c (seen c ||| ((1 : Int64) <<< ((nI v).toInt64 &&& 63))) := by rw [ec]
  have hb : ∀ w, cs_bl (vp_updL seen c (seen c ||| ((1 : Int64) <<< ((nI v).toInt64 &&& 63))) c) w = (cs_bl (seen c) w || decide (w = v)) := by
    intro w
    rw [pk_uLs]; exact cs_or (seen c) (by omega) w
  refine And.intro hin (And.intro hin (nm_r e1 (And.intro hiv (And.intro hin ?_))))
  by_cases l : S v ≤ sst c
  · exact br_t (by rw [ev, em]; exact l) (hp _ sst hb (fun x hx => pk_uLn hx) (fun x _ => rfl) (fun h => cm_keep hb l h))
  · refine br_f (by rw [ev, em]; exact l) (And.intro hiv (And.intro hin (nm_r (e' := upd sst c (S v)) (by rw [ec, ev]) (hp _ _ hb (fun x hx => pk_uLn hx) (fun x hx => pk_un hx) (fun h => ?_)))))
    rw [pk_us]
    exact cm_new hb l h
end
end
section
/-! ===== the chain's invariant, in plain Lean ===== -/
/-- how many of w's dependencies T lacks -/
def cs_k (D : Nat → Nat → Bool) (T : Nat → Bool) (w : Nat) : Nat := cs_n (fun b => D w b && !T b) 40
theorem ck_le (D : Nat → Nat → Bool) (T : Nat → Bool) (w : Nat) : cs_k D T w ≤ 40 := cn_le _ 40
theorem ck_0 {D : Nat → Nat → Bool} {T : Nat → Bool} {w : Nat} (h : cs_k D T w = 0) {b : Nat} (hb : b < 40) (hd : D w b = true) : T b = true := by
  have e : (D w b && !T b) = false := cn_0 40 h b hb
  rw [hd, Bool.true_and] at e
  cases z : T b
  · rw [z] at e; exact absurd e (by decide)
  · rfl
theorem ck_z {D : Nat → Nat → Bool} {T : Nat → Bool} {w : Nat} (h : ∀ b, D w b = true → T b = true) : cs_k D T w = 0 := by
  refine cn_z 40 (fun b _ => ?_)
  show (D w b && !T b) = false
  cases z : D w b
  · rfl
  · rw [h b z]; rfl
theorem ck_nI {D : Nat → Nat → Bool} {T : Nat → Bool} {w : Nat} : nI (cs_k D T w) = 0 ↔ cs_k D T w = 0 := by
  have := ck_le D T w
  rw [← nI_0]
  exact nI_eq (by omega) (by omega)
section
variable {D : Nat → Nat → Bool} {T0 T1 : Nat → Bool} {v w : Nat}
theorem ck_same (hT : ∀ x, T1 x = (T0 x || decide (x = v))) (hd : D w v = false) : cs_k D T1 w = cs_k D T0 w := by
  refine cn_cg 40 (fun b _ => ?_)
  show (D w b && !T1 b) = (D w b && !T0 b)
  by_cases e : b = v
  · rw [e, hd]; rfl
  · rw [hT b, decide_eq_false e, Bool.or_false]
theorem ck_less (hT : ∀ x, T1 x = (T0 x || decide (x = v))) (h0 : T0 v = false) (hv : v < 40) (hd : D w v = true) : cs_k D T0 w = cs_k D T1 w + 1 := by
  refine cn_add (v := v) ?_ ?_ (fun b hb => ?_) 40 hv
  · show (D w v && !T1 v) = false
    rw [hT v, decide_eq_true rfl, Bool.or_true, Bool.not_true, Bool.and_false]
  · show (D w v && !T0 v) = true
    rw [hd, h0]; rfl
  · show (D w b && !T0 b) = (D w b && !T1 b)
    rw [hT b, decide_eq_false hb, Bool.or_false]
end
/-- the pending part q .. m of the chain: those that have come, aren't shown and lack nothing, each once -/
def cs_Q (n c q m : Nat) (C T : Nat → Bool) (lk ch : Nat → Int32) : Prop :=
  (∀ j, q ≤ j → j < m → ∃ w, ch j = nI w ∧ w < n ∧ C w = true ∧ T w = false ∧ lk (c * 40 + w) = 0) ∧
  (∀ w, w < n → C w = true → T w = false → lk (c * 40 + w) = 0 → ∃ j, q ≤ j ∧ j < m ∧ ch j = nI w) ∧
  (∀ j l, q ≤ j → j < l → l < m → ch j ≠ ch l)
/-- shown, or about to be -/
def cs_E (n c : Nat) (C T : Nat → Bool) (lk : Nat → Int32) (w : Nat) : Bool := T w || (decide (w < n) && (C w && decide (lk (c * 40 + w) = 0)))
/-- inside show at i: the counts below i are over T1, those from i on over T0 -/
def cs_I (n c q t : Nat) (D : Nat → Nat → Bool) (C T0 T1 : Nat → Bool) (i m : Nat) (lk ch : Nat → Int32) : Prop :=
  q ≤ m ∧ (∀ w, w < i → C w = true → T1 w = false → lk (c * 40 + w) = nI (cs_k D T1 w)) ∧
  (∀ w, i ≤ w → w < n → C w = true → T1 w = false → lk (c * 40 + w) = nI (cs_k D T0 w)) ∧
  cs_Q n c q m C T1 lk ch ∧ cs_n (cs_E n c C T1 lk) 40 = t + m
section
variable {n c q t i m v : Nat} {D : Nat → Nat → Bool} {C T0 T1 : Nat → Bool} {lk ch : Nat → Int32}
theorem ci_m (I : cs_I n c q t D C T0 T1 i m lk ch) : t + m ≤ 40 := by
  have a := cn_le (cs_E n c C T1 lk) 40
  rw [I.2.2.2.2] at a
  exact a
theorem ci_skip (hT : ∀ x, T1 x = (T0 x || decide (x = v))) (hi : i < n) (I : cs_I n c q t D C T0 T1 i m lk ch) (h : C i = true → T1 i = false → D i v = false) : cs_I n c q t D C T0 T1 (i + 1) m lk ch := by
  obtain ⟨h1, h2, h3, h4, h5⟩ := I
  refine ⟨h1, fun w hw hC hF => ?_, fun w hw1 hw2 hC hF => h3 w (by omega) hw2 hC hF, h4, h5⟩
  by_cases e : w = i
  · subst e
    rw [h3 w (by omega) hi hC hF, ck_same hT (h hC hF)]
  · exact h2 w (by omega) hC hF
/-- an entry's count goes down and isn't zero -/
theorem ci_low1 (hi : i < n) (I : cs_I n c q t D C T0 T1 i m lk ch) (hC : C i = true) (hF : T1 i = false) (hl : cs_k D T0 i = cs_k D T1 i + 1) (hz : ¬ cs_k D T1 i = 0) :
    cs_I n c q t D C T0 T1 (i + 1) m (upd lk (c * 40 + i) (nI (cs_k D T1 i))) ch := by
  obtain ⟨h1, h2, h3, ⟨q1, q2, q3⟩, h5⟩ := I
  have hli := h3 i (by omega) hi hC hF
  have hne : ∀ w, lk (c * 40 + w) = 0 → w ≠ i := by
    intro w hw e
    subst e
    rw [hli, ck_nI] at hw
    omega
  have hu : ∀ w, w ≠ i → upd lk (c * 40 + i) (nI (cs_k D T1 i)) (c * 40 + w) = lk (c * 40 + w) := fun w hw => pk_un (by omega)
  have hui : ¬ upd lk (c * 40 + i) (nI (cs_k D T1 i)) (c * 40 + i) = 0 := by rw [pk_us, ck_nI]; exact hz
  refine ⟨h1, fun w hw hCw hFw => ?_, fun w hw1 hw2 hCw hFw => ?_, ⟨fun j hj1 hj2 => ?_, fun w hw hCw hFw hl0 => ?_, q3⟩, ?_⟩
  · by_cases e : w = i
    · rw [e, pk_us]
    · rw [hu w e]; exact h2 w (by omega) hCw hFw
  · rw [hu w (by omega)]; exact h3 w (by omega) hw2 hCw hFw
  · obtain ⟨w, a1, a2, a3, a4, a5⟩ := q1 j hj1 hj2
    exact ⟨w, a1, a2, a3, a4, by rw [hu w (hne w a5)]; exact a5⟩
  · by_cases e : w = i
    · subst e; exact absurd hl0 hui
    · rw [hu w e] at hl0; exact q2 w hw hCw hFw hl0
  · rw [← h5]
    refine cn_cg 40 (fun w _ => ?_)
    unfold cs_E
    by_cases e : w = i
    · subst e
      rw [decide_eq_false hui, decide_eq_false (show ¬ lk (c * 40 + w) = 0 from fun z => hne w z rfl)]
    · rw [hu w e]
/-- an entry's count goes down to zero: it joins the chain -/
theorem ci_low0 (hn : n ≤ 40) (hi : i < n) (I : cs_I n c q t D C T0 T1 i m lk ch) (hC : C i = true) (hF : T1 i = false) (hl : cs_k D T0 i = cs_k D T1 i + 1) (hz : cs_k D T1 i = 0) :
    cs_I n c q t D C T0 T1 (i + 1) (m + 1) (upd lk (c * 40 + i) (nI (cs_k D T1 i))) (upd ch m (nI i)) := by
  obtain ⟨h1, h2, h3, ⟨q1, q2, q3⟩, h5⟩ := I
  have hli := h3 i (by omega) hi hC hF
  have hne : ∀ w, lk (c * 40 + w) = 0 → w ≠ i := by
    intro w hw e
    subst e
    rw [hli, ck_nI] at hw
    omega
  have hu : ∀ w, w ≠ i → upd lk (c * 40 + i) (nI (cs_k D T1 i)) (c * 40 + w) = lk (c * 40 + w) := fun w hw => pk_un (by omega)
  have hui : upd lk (c * 40 + i) (nI (cs_k D T1 i)) (c * 40 + i) = 0 := by rw [pk_us, ck_nI]; exact hz
  refine ⟨by omega, fun w hw hCw hFw => ?_, fun w hw1 hw2 hCw hFw => ?_, ⟨fun j hj1 hj2 => ?_, fun w hw hCw hFw hl0 => ?_, fun j l hj1 hj2 hj3 => ?_⟩, ?_⟩
  · by_cases e : w = i
    · rw [e, pk_us]
    · rw [hu w e]; exact h2 w (by omega) hCw hFw
  · rw [hu w (by omega)]; exact h3 w (by omega) hw2 hCw hFw
  · by_cases e : j = m
    · subst e
      exact ⟨i, pk_us, hi, hC, hF, hui⟩
    · obtain ⟨w, a1, a2, a3, a4, a5⟩ := q1 j hj1 (by omega)
      exact ⟨w, by rw [pk_un e]; exact a1, a2, a3, a4, by rw [hu w (hne w a5)]; exact a5⟩
  · by_cases e : w = i
    · subst e; exact ⟨m, h1, by omega, pk_us⟩
    · rw [hu w e] at hl0
      obtain ⟨j, b1, b2, b3⟩ := q2 w hw hCw hFw hl0
      exact ⟨j, b1, by omega, by rw [pk_un (by omega)]; exact b3⟩
  · rw [pk_un (show j ≠ m by omega)]
    by_cases e : l = m
    · subst e
      rw [pk_us]
      obtain ⟨w, a1, a2, _, _, a5⟩ := q1 j hj1 hj2
      rw [a1]
      intro z
      exact hne w a5 ((nI_eq (by omega) (by omega)).mp z)
    · rw [pk_un e]; exact q3 j l hj1 hj2 (by omega)
  · rw [← Nat.add_assoc, ← h5]
    refine cn_add (v := i) ?_ ?_ (fun w hw => ?_) 40 (by omega)
    · unfold cs_E
      rw [hF, decide_eq_false (show ¬ lk (c * 40 + i) = 0 from fun z => hne i z rfl), Bool.and_false, Bool.and_false]; rfl
    · unfold cs_E
      rw [hC, decide_eq_true hui, decide_eq_true hi]; simp
    · unfold cs_E
      rw [hu w hw]
/-- v leaves the pending part and is shown -/
theorem ci_start (hn : n ≤ 40) (hT : ∀ x, T1 x = (T0 x || decide (x = v))) (hv : v < n) (hq : q < m) (hch : ch q = nI v) (I : cs_I n c q t D C T0 T0 n m lk ch) :
    cs_I n c (q + 1) t D C T0 T1 0 m lk ch := by
  obtain ⟨h1, h2, h3, ⟨q1, q2, q3⟩, h5⟩ := I
  have hF : ∀ w, T1 w = false → T0 w = false ∧ w ≠ v := by
    intro w hw
    rw [hT w, Bool.or_eq_false_iff] at hw
    exact ⟨hw.1, of_decide_eq_false hw.2⟩
  refine ⟨by omega, fun w hw => absurd hw (by omega), fun w _ hw hC hFw => h2 w hw hC (hF w hFw).1, ⟨fun j hj1 hj2 => ?_, fun w hw hC hFw hl => ?_, fun j l hj1 hj2 hj3 => q3 j l (by omega) hj2 hj3⟩, ?_⟩
  · obtain ⟨w, a1, a2, a3, a4, a5⟩ := q1 j (by omega) hj2
    refine ⟨w, a1, a2, a3, ?_, a5⟩
    have hne := q3 q j (Nat.le_refl q) (by omega) hj2
    rw [hT w, a4, Bool.false_or]
    refine decide_eq_false (fun e => hne ?_)
    rw [hch, a1, e]
  · obtain ⟨j, b1, b2, b3⟩ := q2 w hw hC (hF w hFw).1 hl
    refine ⟨j, ?_, b2, b3⟩
    by_cases e : j = q
    · subst e
      exact absurd ((nI_eq (by omega) (by omega)).mp (hch.symm.trans b3)).symm (hF w hFw).2
    · omega
  · rw [← h5]
    refine cn_cg 40 (fun w _ => ?_)
    unfold cs_E
    by_cases e : w = v
    · subst e
      obtain ⟨w', a1, a2, a3, a4, a5⟩ := q1 q (Nat.le_refl q) hq
      have ew : w' = w := (nI_eq (by omega) (by omega)).mp (a1.symm.trans hch)
      subst ew
      rw [hT w', decide_eq_true rfl, a3, decide_eq_true a5, decide_eq_true a2]; simp
    · rw [hT w, decide_eq_false e, Bool.or_false]
theorem ci_end (I : cs_I n c q t D C T0 T1 n m lk ch) : cs_I n c q t D C T1 T1 n m lk ch :=
  ⟨I.1, I.2.1, fun w h1 h2 => absurd h1 (by omega), I.2.2.2⟩
end
end
section
/-! ===== the component: show ===== -/
section
variable {fv fc : Int32} {K V S : Nat → Int32} {dep come shown : Nat → Int64} {lk best P : Nat → Int32} {seen : Nat → Int64} {sst ch : Nat → Int32} {n c v : Nat}
theorem xs_loop {post : SX → Prop} {q t : Nat} {lk0 : Nat → Int32} {T0 : Nat → Bool} (hn : n ≤ 40) (hc : c < 3) (hv : v < n) (h0v : T0 v = false)
    (hT : ∀ w, cs_bl (shown c) w = (T0 w || decide (w = v)))
    (hp : ∀ m lk ch, cs_I n c q t (fun a => cs_bl (dep a)) (cs_bl (come c)) T0 (cs_bl (shown c)) n m lk ch → (∀ x, (x < c * 40 ∨ c * 40 + 40 ≤ x) → lk x = lk0 x) →
      post (nI n, nI m, K, V, S, dep, come, shown, lk, best, P, seen, sst, ch)) :
    ∀ d i, i + d = n → ∀ m lk ch, cs_I n c q t (fun a => cs_bl (dep a)) (cs_bl (come c)) T0 (cs_bl (shown c)) i m lk ch → (∀ x, (x < c * 40 ∨ c * 40 + 40 ≤ x) → lk x = lk0 x) →
      ∀ f, d < f → wX_show_52 post (nI c) (nI v) f (nI i) (nI n) (nI m) K V S dep come shown lk best P seen sst ch := by
  intro d
  induction d with
  | zero =>
    intro i hi m lk ch I F f hf
    obtain ⟨f, rfl⟩ : ∃ g, f = g + 1 := ⟨f - 1, by omega⟩
    obtain rfl : i = n := by omega
    exact br_t (nI_le (by omega) (by omega)) (hp m lk ch I F)
  | succ d ih =>
    intro i hi m lk ch I F f hf
    obtain ⟨f, rfl⟩ : ∃ g, f = g + 1 := ⟨f - 1, by omega⟩
    have hin : vp_in (nI c) 3 := pk_in c 3 hc
    have skip : (cs_bl (come c) i = true → cs_bl (shown c) i = false → cs_bl (dep i) v = false) → wX_show_107 post (wX_show_52 post (nI c) (nI v) f) (nI c) (nI v) (nI i) (nI n) (nI m) K V S dep come shown lk best P seen sst ch := by
      intro h
      exact br_t rfl (nm_r (nI_1 i) (ih (i + 1) (by omega) m lk ch (ci_skip hT (by omega) I h) F f (by omega)))
    refine br_f (nI_ge (by omega) (by omega)) (And.intro hin ?_)
    refine xh_has (w' := come c) (congrArg come (cs_cl (by omega))) (by omega) (fun hC => ?_) (fun hC => br_t rfl (skip (fun z => absurd (hC.symm.trans z) (by decide))))
    refine br_f (by decide) (And.intro hin ?_)
    refine xh_has (w' := shown c) (congrArg shown (cs_cl (by omega))) (by omega) (fun hS => br_f (by decide) (skip (fun _ z => absurd (hS.symm.trans z) (by decide)))) (fun hS => ?_)
    refine br_t rfl (And.intro (pk_in i 40 (by omega)) ?_)
    refine xh_has (w' := dep i) (congrArg dep (cs_cl (by omega))) (by omega) (fun hD => ?_) (fun hD => br_t rfl (skip (fun _ _ => hD)))
    have hl : cs_k (fun a => cs_bl (dep a)) T0 i = cs_k (fun a => cs_bl (dep a)) (cs_bl (shown c)) i + 1 := ck_less hT h0v (by omega) hD
    have hli : lk (c * 40 + i) = nI (cs_k (fun a => cs_bl (dep a)) T0 i) := I.2.2.1 i (by omega) (by omega) hC hS
    have hy : lk (c * 40 + i) - 1 = nI (cs_k (fun a => cs_bl (dep a)) (cs_bl (shown c)) i) := by rw [hli, hl, nI_pred]
    have hF : ∀ y x, (x < c * 40 ∨ c * 40 + 40 ≤ x) → upd lk (c * 40 + i) y x = lk0 x := by
      intro y x hx
      rw [pk_un (by omega)]; exact F x hx
    have hm := ci_m I
    refine br_f (by decide) (br_f (by decide) ?_)
    refine xl_lower (m := m) hc (by omega) (by omega) hy (fun z => ?_) (fun z => ?_) (fun z => ?_)
    · have h2 := ci_m (ci_low0 hn (by omega) I hC hS hl (ck_nI.mp z))
      omega
    · exact nm_r (nI_1 i) (ih (i + 1) (by omega) (m + 1) _ _ (ci_low0 hn (by omega) I hC hS hl (ck_nI.mp z)) (hF _) f (by omega))
    · exact nm_r (nI_1 i) (ih (i + 1) (by omega) m _ _ (ci_low1 (by omega) I hC hS hl (fun e => z (ck_nI.mpr e))) (hF _) f (by omega))
theorem xs_show {post : SX → Prop} {q t m : Nat} (hn : n ≤ 40) (hc : c < 3) (hv : v < n) (hK : ∀ w, w < n → ∃ k, k < 6 ∧ K w = nI k)
    (hB : ∀ k, k < 6 → cs_B K S (cs_bl (shown c)) (nI k) (best (c * 6 + k)))
    (I : cs_I n c q t (fun a => cs_bl (dep a)) (cs_bl (come c)) (cs_bl (shown c)) (cs_bl (shown c)) n m lk ch) (hq : q < m) (hch : ch q = nI v) (h0v : cs_bl (shown c) v = false)
    (hp : ∀ shown' m' lk' ch' best', (∀ w, cs_bl (shown' c) w = (cs_bl (shown c) w || decide (w = v))) → (∀ x, x ≠ c → shown' x = shown x) →
      cs_I n c (q + 1) t (fun a => cs_bl (dep a)) (cs_bl (come c)) (cs_bl (shown' c)) (cs_bl (shown' c)) n m' lk' ch' →
      (∀ k, k < 6 → cs_B K S (cs_bl (shown' c)) (nI k) (best' (c * 6 + k))) →
      (∀ x, (x < c * 40 ∨ c * 40 + 40 ≤ x) → lk' x = lk x) → (∀ x, (x < c * 6 ∨ c * 6 + 6 ≤ x) → best' x = best x) →
      post (nI n, nI m', K, V, S, dep, come, shown', lk', best', P, seen, sst, ch')) :
    wpX_show post (nI n, nI m, K, V, S, dep, come, shown, lk, best, P, seen, sst, ch) (nI c) (nI v) := by
  have hin : vp_in (nI c) 3 := pk_in c 3 hc
  have ec : (nI c).toNatClampNeg = c := cs_cl (by omega)
  obtain ⟨k, hk, ek⟩ := hK v hv
  have e1 : vp_updL shown (nI c).toNatClampNeg (shown (nI c).toNatClampNeg ||| ((1 : Int64) <<< ((nI v).toInt64 &&& 63))) = vp_updL shown c (shown c ||| ((1 : Int64) <<< ((nI v).toInt64 &&& 63))) := by rw [ec]
  generalize hs' : vp_updL shown c (shown c ||| ((1 : Int64) <<< ((nI v).toInt64 &&& 63))) = shown' at e1
  have hb : ∀ w, cs_bl (shown' c) w = (cs_bl (shown c) w || decide (w = v)) := by
    intro w
    rw [← hs', pk_uLs]; exact cs_or (shown c) (by omega) w
  have ho : ∀ x, x ≠ c → shown' x = shown x := by
    intro x hx
    rw [← hs', pk_uLn hx]
  have e2 : nI c * 6 + K (nI v).toNatClampNeg = nI (c * 6 + k) := by rw [cs_cl (by omega), ek, cs_ix6]
  have e3 : (nI (c * 6 + k)).toNatClampNeg = c * 6 + k := cs_cl (by omega)
  have hin2 : vp_in (nI (c * 6 + k)) 18 := pk_in (c * 6 + k) 18 (by omega)
  have hst := ci_start (T1 := cs_bl (shown' c)) hn hb hv hq hch I
  refine And.intro hin (And.intro hin (nm_r e1 (And.intro (pk_in v 40 (by omega)) (nm_r e2 (And.intro hin2 ?_)))))
  rw [e3]
  have hx : best (c * 6 + k) = -5 ∨ ∃ w, w < 40 ∧ best (c * 6 + k) = nI w := by
    rcases hB k hk with ⟨e, _⟩ | ⟨w, hw, e, _⟩
    · exact Or.inl e
    · exact Or.inr ⟨w, hw, e⟩
  have hoth : ∀ j, j < 6 → j ≠ k → cs_B K S (cs_bl (shown' c)) (nI j) (best (c * 6 + j)) := by
    intro j hj hjk
    refine cb_other hb ?_ (hB j hj)
    rw [ek]
    exact fun z => hjk ((nI_eq (by omega) (by omega)).mp z).symm
  refine xb_beats (by omega) hx (fun hw => ?_) (fun w hw ew hk0 => ?_)
  · refine br_f (by decide) (And.intro hin2 (nm_e (Exists.intro (n + 1) ?_)))
    refine xs_loop hn hc hv h0v hb (fun m' lk' ch' I' F' => hp shown' m' lk' ch' _ hb ho (ci_end I') (fun j hj => ?_) F' (fun x hx => pk_un (by omega))) n 0 (by omega) m lk ch hst (fun _ _ => rfl) (n + 1) (by omega)
    by_cases e : j = k
    · subst e
      rw [pk_us]
      exact cb_new hb (by omega) ek (hB j hj) hw
    · rw [pk_un (by omega)]
      exact hoth j hj e
  · refine br_t rfl (Exists.intro (n + 1) ?_)
    refine xs_loop hn hc hv h0v hb (fun m' lk' ch' I' F' => hp shown' m' lk' ch' best hb ho (ci_end I') (fun j hj => ?_) F' (fun x hx => rfl)) n 0 (by omega) m lk ch hst (fun _ _ => rfl) (n + 1) (by omega)
    by_cases e : j = k
    · subst e
      exact cb_keep hb ew hw (hB j hj) hk0
    · exact hoth j hj e
end
end
section
/-! ===== the component: arrive ===== -/
/-- what the component keeps for a centre c -/
def cs_X (n : Nat) (K S : Nat → Int32) (dep come shown : Nat → Int64) (lk best : Nat → Int32) (c : Nat) : Prop :=
  (∀ v, cs_bl (come c) v = true → v < n) ∧ cs_V n (fun a => cs_bl (dep a)) (cs_bl (come c)) (cs_bl (shown c)) ∧
  (∀ w, w < n → cs_bl (come c) w = true → cs_bl (shown c) w = false → lk (c * 40 + w) = nI (cs_k (fun a => cs_bl (dep a)) (cs_bl (shown c)) w)) ∧
  (∀ k, k < 6 → cs_B K S (cs_bl (shown c)) (nI k) (best (c * 6 + k)))
theorem cx_frame {n : Nat} {K S : Nat → Int32} {dep come come' shown shown' : Nat → Int64} {lk lk' best best' : Nat → Int32} {c d : Nat} (hn : n ≤ 40) (hd : d ≠ c)
    (h1 : come' d = come d) (h2 : shown' d = shown d) (h3 : ∀ x, (x < c * 40 ∨ c * 40 + 40 ≤ x) → lk' x = lk x) (h4 : ∀ x, (x < c * 6 ∨ c * 6 + 6 ≤ x) → best' x = best x)
    (h : cs_X n K S dep come shown lk best d) : cs_X n K S dep come' shown' lk' best' d := by
  obtain ⟨a1, a2, a3, a4⟩ := h
  unfold cs_X
  rw [h1, h2]
  refine ⟨a1, a2, fun w hw hC hF => ?_, fun k hk => ?_⟩
  · rw [h3 (d * 40 + w) (by omega)]; exact a3 w hw hC hF
  · rw [h4 (d * 6 + k) (by omega)]; exact a4 k hk
/-- the chain has run out: what is shown is what is visible -/
theorem ci_exit {n c q t m : Nat} {D : Nat → Nat → Bool} {C T : Nat → Bool} {lk ch : Nat → Int32} (I : cs_I n c q t D C T T n m lk ch) (hqm : m ≤ q)
    (hs : ∀ w, T w = true → w < n ∧ C w = true ∧ ∀ b, D w b = true → T b = true) : cs_V n D C T ∧ cs_n T 40 = t + m := by
  obtain ⟨_, h2, _, ⟨_, q2, _⟩, h5⟩ := I
  have hno : ∀ w, w < n → C w = true → T w = false → ¬ lk (c * 40 + w) = 0 := by
    intro w hw hC hF hz
    obtain ⟨j, b1, b2, _⟩ := q2 w hw hC hF hz
    omega
  constructor
  · intro w
    refine ⟨hs w, fun ⟨hw, hC, hd⟩ => ?_⟩
    cases e : T w
    · exact absurd ((h2 w hw hC e).trans (ck_nI.mpr (ck_z hd))) (hno w hw hC e)
    · rfl
  · rw [← h5]
    refine cn_cg 40 (fun w _ => ?_)
    unfold cs_E
    cases e : T w
    · by_cases hw : w < n
      · cases hC : C w
        · rw [Bool.false_and, Bool.and_false]; rfl
        · rw [decide_eq_false (hno w hw hC e), Bool.and_false, Bool.and_false]; rfl
      · rw [decide_eq_false hw, Bool.false_and]; rfl
    · rfl
section
variable {K V S : Nat → Int32} {dep come : Nat → Int64} {P : Nat → Int32} {seen : Nat → Int64} {sst : Nat → Int32} {n c v : Nat}
theorem xa_loop {post : Int32 → SX → Prop} {t : Nat} {lk0 best0 : Nat → Int32} {shown0 : Nat → Int64} (hn : n ≤ 40) (hc : c < 3)
    (hlt : ∀ a b, a < n → cs_bl (dep a) b = true → b < a) (hK : ∀ w, w < n → ∃ k, k < 6 ∧ K w = nI k) (hCn : ∀ v, cs_bl (come c) v = true → v < n)
    (hp : ∀ m lk ch best shown, cs_X n K S dep come shown lk best c → cs_n (cs_bl (shown c)) 40 = t + m → (∀ x, x ≠ c → shown x = shown0 x) →
      (∀ x, (x < c * 40 ∨ c * 40 + 40 ≤ x) → lk x = lk0 x) → (∀ x, (x < c * 6 ∨ c * 6 + 6 ≤ x) → best x = best0 x) →
      post (nI m) (nI n, nI m, K, V, S, dep, come, shown, lk, best, P, seen, sst, ch)) :
    ∀ d q, q + d = 40 → ∀ m lk ch best shown, cs_I n c q t (fun a => cs_bl (dep a)) (cs_bl (come c)) (cs_bl (shown c)) (cs_bl (shown c)) n m lk ch →
      (∀ w, cs_bl (shown c) w = true → w < n ∧ cs_bl (come c) w = true ∧ ∀ b, cs_bl (dep w) b = true → cs_bl (shown c) b = true) →
      (∀ k, k < 6 → cs_B K S (cs_bl (shown c)) (nI k) (best (c * 6 + k))) →
      (∀ x, x ≠ c → shown x = shown0 x) → (∀ x, (x < c * 40 ∨ c * 40 + 40 ≤ x) → lk x = lk0 x) → (∀ x, (x < c * 6 ∨ c * 6 + 6 ≤ x) → best x = best0 x) →
      ∀ f, d < f → wX_arrive_73 post (nI c) f (nI q) (nI n) (nI m) K V S dep come shown lk best P seen sst ch := by
  intro d
  induction d with
  | zero =>
    intro q hq m lk ch best shown I hs hB f1 f2 f3 f hf
    obtain ⟨f, rfl⟩ : ∃ g, f = g + 1 := ⟨f - 1, by omega⟩
    have hm := ci_m I
    have hqm := I.1
    obtain rfl : q = m := by omega
    obtain ⟨hV, hN⟩ := ci_exit I (Nat.le_refl q) hs
    exact br_t (nI_le (by omega) (by omega)) (hp q lk ch best shown ⟨hCn, hV, fun w hw => I.2.1 w hw, hB⟩ hN f1 f2 f3)
  | succ d ih =>
    intro q hq m lk ch best shown I hs hB f1 f2 f3 f hf
    obtain ⟨f, rfl⟩ : ∃ g, f = g + 1 := ⟨f - 1, by omega⟩
    have hm := ci_m I
    have hqm := I.1
    by_cases hlt2 : q < m
    · obtain ⟨w, e1, hw, hC, hF, hl⟩ := I.2.2.2.1.1 q (Nat.le_refl q) hlt2
      have hk0 : cs_k (fun a => cs_bl (dep a)) (cs_bl (shown c)) w = 0 := ck_nI.mp ((I.2.1 w hw hC hF).symm.trans hl)
      have e2 : ch (nI q).toNatClampNeg = nI w := by rw [cs_cl (by omega)]; exact e1
      refine br_f (nI_ge (by omega) (by omega)) (And.intro (pk_in q 40 (by omega)) ?_)
      rw [e2]
      refine xs_show hn hc hw hK hB I hlt2 e1 hF (fun shown' m' lk' ch' best' hb ho I' hB' fl fb => ?_)
      refine nm_r (nI_1 q) (ih (q + 1) (by omega) m' lk' ch' best' shown' I' (fun z hz => ?_) hB' (fun x hx => (ho x hx).trans (f1 x hx)) (fun x hx => (fl x hx).trans (f2 x hx)) (fun x hx => (fb x hx).trans (f3 x hx)) f (by omega))
      rw [hb z] at hz
      have hup : ∀ b, cs_bl (shown c) b = true → cs_bl (shown' c) b = true := by
        intro b h
        rw [hb b, h]; rfl
      by_cases e : z = w
      · subst e
        refine ⟨hw, hC, fun b hd => hup b (ck_0 hk0 ?_ hd)⟩
        have := hlt z b hw hd
        omega
      · rw [decide_eq_false e, Bool.or_false] at hz
        obtain ⟨g1, g2, g3⟩ := hs z hz
        exact ⟨g1, g2, fun b hd => hup b (g3 b hd)⟩
    · obtain rfl : q = m := by omega
      obtain ⟨hV, hN⟩ := ci_exit I (Nat.le_refl q) hs
      exact br_t (nI_le (by omega) (by omega)) (hp q lk ch best shown ⟨hCn, hV, fun w hw => I.2.1 w hw, hB⟩ hN f1 f2 f3)
/-- a version comes: the relation for every centre holds again, and the answer is how many became visible -/
theorem xa_arrive {post : Int32 → SX → Prop} {fc : Int32} {shown : Nat → Int64} {lk best ch : Nat → Int32} (hn : n ≤ 40) (hc : c < 3) (hv : v < n)
    (hlt : ∀ a b, a < n → cs_bl (dep a) b = true → b < a) (hK : ∀ w, w < n → ∃ k, k < 6 ∧ K w = nI k)
    (hX : ∀ d, d < 3 → cs_X n K S dep come shown lk best d) (hnc : cs_bl (come c) v = false)
    (hp : ∀ r fc' come' shown' lk' best' ch', (∀ d, d < 3 → cs_X n K S dep come' shown' lk' best' d) → (∀ w, cs_bl (come' c) w = (cs_bl (come c) w || decide (w = v))) → (∀ x, x ≠ c → come' x = come x) →
      r + cs_n (cs_bl (shown c)) 40 = cs_n (cs_bl (shown' c)) 40 →
      post (nI r) (nI n, fc', K, V, S, dep, come', shown', lk', best', P, seen, sst, ch')) :
    wpX_arrive post (nI n, fc, K, V, S, dep, come, shown, lk, best, P, seen, sst, ch) (nI c) (nI v) := by
  have hin : vp_in (nI c) 3 := pk_in c 3 hc
  have hin2 : vp_in (nI c * 40 + nI v) 120 := pk_in (c * 40 + v) 120 (by omega) (cs_ix40 c v)
  have ec : (nI c).toNatClampNeg = c := cs_cl (by omega)
  have e1 : vp_updL come (nI c).toNatClampNeg (come (nI c).toNatClampNeg ||| ((1 : Int64) <<< ((nI v).toInt64 &&& 63))) = vp_updL come c (come c ||| ((1 : Int64) <<< ((nI v).toInt64 &&& 63))) := by rw [ec]
  generalize hs' : vp_updL come c (come c ||| ((1 : Int64) <<< ((nI v).toInt64 &&& 63))) = come' at e1
  have hb : ∀ w, cs_bl (come' c) w = (cs_bl (come c) w || decide (w = v)) := by
    intro w
    rw [← hs', pk_uLs]; exact cs_or (come c) (by omega) w
  have ho : ∀ x, x ≠ c → come' x = come x := by
    intro x hx
    rw [← hs', pk_uLn hx]
  obtain ⟨x1, x2, x3, x4⟩ := hX c hc
  have hCn : ∀ w, cs_bl (come' c) w = true → w < n := by
    intro w hw
    rw [hb w] at hw
    by_cases e : w = v
    · rw [e]; exact hv
    · rw [decide_eq_false e, Bool.or_false] at hw; exact x1 w hw
  have hCo : ∀ w, w ≠ v → cs_bl (come' c) w = cs_bl (come c) w := by
    intro w hw
    rw [hb w, decide_eq_false hw, Bool.or_false]
  have hCv : cs_bl (come' c) v = true := by rw [hb v, decide_eq_true rfl, Bool.or_true]
  have hFv : cs_bl (shown c) v = false := by
    cases e : cs_bl (shown c) v
    · rfl
    · exact absurd (hnc.symm.trans ((x2 v).mp e).2.1) (by decide)
  have hs : ∀ w, cs_bl (shown c) w = true → w < n ∧ cs_bl (come' c) w = true ∧ ∀ b, cs_bl (dep w) b = true → cs_bl (shown c) b = true := by
    intro w hw
    obtain ⟨a1, a2, a3⟩ := (x2 w).mp hw
    exact ⟨a1, by rw [hb w, a2]; rfl, a3⟩
  have eb : cs_n (cs_bl (dep (nI v).toNatClampNeg &&& (shown (nI c).toNatClampNeg ^^^ (-1)))) 40 = cs_k (fun a => cs_bl (dep a)) (cs_bl (shown c)) v := by
    rw [ec, cs_cl (show v ≤ 2000 by omega)]
    exact cn_cg 40 (fun b _ => cs_an (dep v) (shown c) b)
  have hkle := ck_le (fun a => cs_bl (dep a)) (cs_bl (shown c)) v
  have e2 : ∀ r, upd lk (nI c * 40 + nI v).toNatClampNeg r = upd lk (c * 40 + v) r := by intro r; rw [cs_cl40 (by omega)]
  have e3 : ∀ r, upd lk (c * 40 + v) r (nI c * 40 + nI v).toNatClampNeg = r := by intro r; rw [cs_cl40 (by omega), pk_us]
  have hL : ∀ w, w < n → cs_bl (come' c) w = true → cs_bl (shown c) w = false → upd lk (c * 40 + v) (nI (cs_k (fun a => cs_bl (dep a)) (cs_bl (shown c)) v)) (c * 40 + w) = nI (cs_k (fun a => cs_bl (dep a)) (cs_bl (shown c)) w) := by
    intro w hw hC hF
    by_cases e : w = v
    · rw [e, pk_us]
    · rw [pk_un (by omega)]
      rw [hCo w e] at hC
      exact x3 w hw hC hF
  have hfr : ∀ x, (x < c * 40 ∨ c * 40 + 40 ≤ x) → upd lk (c * 40 + v) (nI (cs_k (fun a => cs_bl (dep a)) (cs_bl (shown c)) v)) x = lk x := fun x hx => pk_un (by omega)
  have hnz : ∀ w, w < n → w ≠ v → cs_bl (come' c) w = true → cs_bl (shown c) w = false → ¬ cs_k (fun a => cs_bl (dep a)) (cs_bl (shown c)) w = 0 := by
    intro w hw e hC hF hz
    rw [hCo w e] at hC
    have hT : cs_bl (shown c) w = true := (x2 w).mpr ⟨hw, hC, fun b hd => ck_0 hz (by have := hlt w b hw hd; omega) hd⟩
    exact absurd (hF.symm.trans hT) (by decide)
  refine And.intro hin (And.intro hin (nm_r e1 (And.intro (pk_in v 40 (by omega)) (And.intro hin ?_))))
  refine xb_bits ?_
  rw [eb]
  refine And.intro hin2 (nm_r (e2 _) (And.intro hin2 ?_))
  rw [e3]
  by_cases hz : cs_k (fun a => cs_bl (dep a)) (cs_bl (shown c)) v = 0
  · refine br_t (by rw [hz]; decide) (nm_e (Exists.intro 41 ?_))
    have hno : ∀ w, w < n → cs_bl (come' c) w = true → cs_bl (shown c) w = false → upd lk (c * 40 + v) (nI (cs_k (fun a => cs_bl (dep a)) (cs_bl (shown c)) v)) (c * 40 + w) = 0 → w = v := by
      intro w hw hC hF hl
      by_cases e : w = v
      · exact e
      · rw [hL w hw hC hF, ck_nI] at hl
        exact absurd hl (hnz w hw e hC hF)
    have hlv : upd lk (c * 40 + v) (nI (cs_k (fun a => cs_bl (dep a)) (cs_bl (shown c)) v)) (c * 40 + v) = 0 := by rw [pk_us, ck_nI]; exact hz
    refine xa_loop (t := cs_n (cs_bl (shown c)) 40) (shown0 := shown) (lk0 := lk) (best0 := best) hn hc hlt hK hCn (fun m lk' ch' best' shown' hXc hN g1 g2 g3 => ?_) 40 0 (by omega) 1 _ _ best shown ?_ hs x4 (fun _ _ => rfl) hfr (fun _ _ => rfl) 41 (by omega)
    · refine hp m _ come' shown' lk' best' ch' (fun d hd => ?_) hb ho (by omega)
      by_cases e : d = c
      · rw [e]; exact hXc
      · exact cx_frame hn e (ho d e) (g1 d e) g2 g3 (hX d hd)
    · refine ⟨by omega, hL, fun w h1 h2 => absurd h1 (by omega), ⟨fun j _ hj => ?_, fun w hw hC hF hl => ?_, fun j l _ h1 h2 => absurd h1 (by omega)⟩, ?_⟩
      · obtain rfl : j = 0 := by omega
        exact ⟨v, pk_us, hv, hCv, hFv, hlv⟩
      · have e := hno w hw hC hF hl
        subst e
        exact ⟨0, by omega, by omega, pk_us⟩
      · refine cn_add (v := v) hFv ?_ (fun w hw => ?_) 40 (by omega)
        · unfold cs_E
          rw [hCv, decide_eq_true hlv, decide_eq_true hv]; simp
        · unfold cs_E
          cases e : cs_bl (shown c) w
          · by_cases h1 : w < n
            · cases hC : cs_bl (come' c) w
              · rw [Bool.false_and, Bool.and_false]; rfl
              · rw [decide_eq_false (fun z => hw (hno w h1 hC e z)), Bool.and_false, Bool.and_false]; rfl
            · rw [decide_eq_false h1, Bool.false_and]; rfl
          · rfl
  · refine br_f (fun z => ?_) (hp 0 _ come' shown _ best ch (fun d hd => ?_) hb ho (Nat.zero_add _))
    · rw [← nI_0, nI_leI (by omega) (by omega)] at z
      omega
    · by_cases e : d = c
      · subst e
        refine ⟨hCn, fun w => ⟨hs w, fun ⟨a1, a2, a3⟩ => ?_⟩, hL, x4⟩
        by_cases e : w = v
        · subst e
          exact absurd (ck_z a3) hz
        · rw [hCo w e] at a2
          exact (x2 w).mpr ⟨a1, a2, a3⟩
      · exact cx_frame hn e (ho d e) rfl hfr (fun _ _ => rfl) (hX d hd)
end
end
section
/-! ===== the relation, and what is left of the loops ===== -/
def cs_R (n : Nat) (K S P : Nat → Int32) (dep come shown : Nat → Int64) (lk best : Nat → Int32) (seen : Nat → Int64) (sst nd yc hs : Nat → Int32) : Prop :=
  (∀ v, v < n → ∃ k, k < 6 ∧ K v = nI k) ∧ (∀ c, c < 3 → ∃ p, p < 3 ∧ P c = nI p) ∧ (∀ c, c < 3 → cs_X n K S dep come shown lk best c) ∧
  (∀ c, c < 3 → (∀ v, cs_bl (seen c) v = true → v < n) ∧ cs_M S (cs_bl (seen c)) (sst c)) ∧
  cs_Y n (fun a => cs_bl (dep a)) (fun c => cs_bl (come c)) (fun c => cs_bl (seen c)) nd yc hs
/-- the relation at the head of a turn -/
def i_Rel (_ : Nat) (u : SX) (v : SY) : Prop :=
  ∃ (n : Nat) (fc : Int32) (K V S P : Nat → Int32) (dep come shown : Nat → Int64) (lk best : Nat → Int32) (seen : Nat → Int64) (sst ch nd yc hs sh : Nat → Int32),
    u = (nI n, fc, K, V, S, dep, come, shown, lk, best, P, seen, sst, ch) ∧ v = (nI n, K, V, S, nd, yc, hs, P, sh) ∧ cs_R n K S P dep come shown lk best seen sst nd yc hs
theorem cs_mk {k n : Nat} {fc : Int32} {K V S P : Nat → Int32} {dep come shown : Nat → Int64} {lk best : Nat → Int32} {seen : Nat → Int64} {sst ch nd yc hs sh : Nat → Int32}
    (h : cs_R n K S P dep come shown lk best seen sst nd yc hs) : i_Rel k (nI n, fc, K, V, S, dep, come, shown, lk, best, P, seen, sst, ch) (nI n, K, V, S, nd, yc, hs, P, sh) :=
  ⟨n, fc, K, V, S, P, dep, come, shown, lk, best, seen, sst, ch, nd, yc, hs, sh, rfl, rfl, h⟩
theorem cs_el {k : Nat} {u : SX} {v : SY} {Q : SX → SY → Prop}
    (h : ∀ (n : Nat) (fc : Int32) (K V S P : Nat → Int32) (dep come shown : Nat → Int64) (lk best : Nat → Int32) (seen : Nat → Int64) (sst ch nd yc hs sh : Nat → Int32),
      cs_R n K S P dep come shown lk best seen sst nd yc hs → Q (nI n, fc, K, V, S, dep, come, shown, lk, best, P, seen, sst, ch) (nI n, K, V, S, nd, yc, hs, P, sh)) (I : i_Rel k u v) : Q u v := by
  obtain ⟨n, fc, K, V, S, P, dep, come, shown, lk, best, seen, sst, ch, nd, yc, hs, sh, eu, ev, hR⟩ := I
  rw [eu, ev]
  exact h n fc K V S P dep come shown lk best seen sst ch nd yc hs sh hR
theorem i_up {k : Nat} {u : SX} {v : SY} (h : i_Rel k u v) : i_Rel (k + 4) u v := h
/-! a cell of a 3 * 40 table is set -/
theorem cy_set {C C' : Nat → Nat → Bool} {yc : Nat → Int32} {p u : Nat} (hu : u < 40)
    (h : ∀ c v, c < 3 → v < 40 → yc (c * 40 + v) = cs_1 (C c v)) (h1 : ∀ w, C' p w = (C p w || decide (w = u))) (h2 : ∀ x, x ≠ p → C' x = C x) :
    ∀ c v, c < 3 → v < 40 → upd yc (p * 40 + u) 1 (c * 40 + v) = cs_1 (C' c v) := by
  intro c v hc hv
  by_cases e : c = p
  · subst e
    rw [h1 v]
    by_cases e2 : v = u
    · rw [e2, pk_us, decide_eq_true rfl, Bool.or_true]; rfl
    · rw [pk_un (by omega), decide_eq_false e2, Bool.or_false]; exact h c v hc hv
  · rw [pk_un (by omega), h2 c e]; exact h c v hc hv
/-- a new version that has come nowhere -/
theorem cx_new {n : Nat} {K S : Nat → Int32} {dep come shown : Nat → Int64} {lk best : Nat → Int32} {d : Nat} {x y : Int32} {z : Int64}
    (h : cs_X n K S dep come shown lk best d) : cs_X (n + 1) (upd K n x) (upd S n y) (vp_updL dep n z) come shown lk best d := by
  obtain ⟨a1, a2, a3, a4⟩ := h
  have hD : ∀ w, w < n → vp_updL dep n z w = dep w := fun w hw => pk_uLn (by omega)
  refine ⟨fun v hv => by have := a1 v hv; omega, fun w => ⟨fun hw => ?_, fun ⟨b1, b2, b3⟩ => ?_⟩, fun w hw hC hF => ?_, fun k hk => ?_⟩
  · obtain ⟨b1, b2, b3⟩ := (a2 w).mp hw
    refine ⟨by omega, b2, fun b hb => b3 b ?_⟩
    show cs_bl (dep w) b = true
    rw [← hD w b1]; exact hb
  · have hw := a1 w b2
    refine (a2 w).mpr ⟨hw, b2, fun b hb => b3 b ?_⟩
    show cs_bl (vp_updL dep n z w) b = true
    rw [hD w hw]; exact hb
  · have hw := a1 w hC
    rw [a3 w hw hC hF]
    unfold cs_k
    show nI (cs_n (fun b => cs_bl (dep w) b && !cs_bl (shown d) b) 40) = nI (cs_n (fun b => cs_bl (vp_updL dep n z w) b && !cs_bl (shown d) b) 40)
    rw [hD w hw]
  · refine cb_cg (fun v hv => ?_) (a4 k hk)
    have hv := ((a2 v).mp hv).1
    exact ⟨pk_un (by omega), pk_un (by omega)⟩
section
variable {fv fc : Int32} {K V S : Nat → Int32} {dep : Nat → Int64} {best P : Nat → Int32} {seen : Nat → Int64} {sst : Nat → Int32} {n c : Nat}
/-! the component's deliverAll -/
theorem xd_loop {post : Int32 → SX → Prop} {t : Nat} {come0 : Nat → Int64} (hn : n ≤ 40) (hc : c < 3)
    (hlt : ∀ a b, a < n → cs_bl (dep a) b = true → b < a) (hK : ∀ w, w < n → ∃ k, k < 6 ∧ K w = nI k)
    (hp : ∀ r fc come shown lk best ch, (∀ d, d < 3 → cs_X n K S dep come shown lk best d) → (∀ w, cs_bl (come c) w = (cs_bl (come0 c) w || decide (w < n))) → (∀ x, x ≠ c → come x = come0 x) →
      r + t = cs_n (cs_bl (shown c)) 40 → post (nI r) (nI n, fc, K, V, S, dep, come, shown, lk, best, P, seen, sst, ch)) :
    ∀ d i, i + d = n → ∀ r fc come shown lk best ch, (∀ d, d < 3 → cs_X n K S dep come shown lk best d) → (∀ w, cs_bl (come c) w = (cs_bl (come0 c) w || decide (w < i))) → (∀ x, x ≠ c → come x = come0 x) →
      r + t = cs_n (cs_bl (shown c)) 40 → ∀ f, d < f → wX_deliverAll_14 post (nI c) f (nI r) (nI i) (nI n) fc K V S dep come shown lk best P seen sst ch := by
  intro d
  induction d with
  | zero =>
    intro i hi r fc come shown lk best ch hX h1 h2 h3 f hf
    obtain ⟨f, rfl⟩ : ∃ g, f = g + 1 := ⟨f - 1, by omega⟩
    obtain rfl : i = n := by omega
    exact br_t (nI_le (by omega) (by omega)) (hp r fc come shown lk best ch hX h1 h2 h3)
  | succ d ih =>
    intro i hi r fc come shown lk best ch hX h1 h2 h3 f hf
    obtain ⟨f, rfl⟩ : ∃ g, f = g + 1 := ⟨f - 1, by omega⟩
    have hstep : ∀ w, (cs_bl (come0 c) w || decide (w < i + 1)) = ((cs_bl (come0 c) w || decide (w < i)) || decide (w = i)) := by
      intro w
      by_cases e : w = i
      · rw [decide_eq_true e, decide_eq_true (show w < i + 1 by omega), Bool.or_true, Bool.or_true]
      · rw [decide_eq_false e, Bool.or_false, show decide (w < i + 1) = decide (w < i) from decide_eq_decide.mpr (by omega)]
    refine br_f (nI_ge (by omega) (by omega)) (And.intro (pk_in c 3 hc) ?_)
    refine xh_has (w' := come c) (congrArg come (cs_cl (by omega))) (by omega) (fun hC => ?_) (fun hC => ?_)
    · refine br_f (by decide) (nm_r (nI_1 i) (ih (i + 1) (by omega) r fc come shown lk best ch hX (fun w => ?_) h2 h3 f (by omega)))
      rw [hstep w, ← h1 w]
      by_cases e : w = i
      · rw [e, hC]; rfl
      · rw [decide_eq_false e, Bool.or_false]
    · refine br_t rfl ?_
      refine xa_arrive hn hc (by omega) hlt hK hX hC (fun r2 fc2 come2 shown2 lk2 best2 ch2 hX2 hb ho hr => ?_)
      refine nm_r (nI_add r r2) (nm_r (nI_1 i) (ih (i + 1) (by omega) (r + r2) fc2 come2 shown2 lk2 best2 ch2 hX2 (fun w => ?_) (fun x hx => (ho x hx).trans (h2 x hx)) (by omega) f (by omega)))
      rw [hb w, h1 w, hstep w]
/-! the component's agree -/
theorem xg_loop {post : Int32 → Prop} {come shown : Nat → Int64} {lk ch : Nat → Int32} {a b : Nat} (ha : a < 3) (hb : b < 3) (hp : post (nI (cs_n (fun k => decide (best (a * 6 + k) = best (b * 6 + k))) 6))) :
    ∀ d i, i + d = 6 → ∀ f, d < f → wX_agree_22 post (nI a) (nI b) fv fc K V S dep come shown lk best P seen sst ch f (nI (cs_n (fun k => decide (best (a * 6 + k) = best (b * 6 + k))) i)) (nI i) := by
  intro d
  induction d with
  | zero =>
    intro i hi f hf
    obtain ⟨f, rfl⟩ : ∃ g, f = g + 1 := ⟨f - 1, by omega⟩
    obtain rfl : i = 6 := by omega
    exact br_t (nI_le (a := 6) (by omega) (by omega)) hp
  | succ d ih =>
    intro i hi f hf
    obtain ⟨f, rfl⟩ : ∃ g, f = g + 1 := ⟨f - 1, by omega⟩
    have next := ih (i + 1) (by omega) f (by omega)
    have e1 : best (nI a * 6 + nI i).toNatClampNeg = best (a * 6 + i) := congrArg best (cs_cl6 (by omega))
    have e2 : best (nI b * 6 + nI i).toNatClampNeg = best (b * 6 + i) := congrArg best (cs_cl6 (by omega))
    refine br_f (nI_ge (b := 6) (by omega) (by omega)) (And.intro (pk_in (a * 6 + i) 18 (by omega) (cs_ix6 a i)) (And.intro (pk_in (b * 6 + i) 18 (by omega) (cs_ix6 b i)) ?_))
    by_cases e : best (a * 6 + i) = best (b * 6 + i)
    · rw [cn_st (p := fun k => decide (best (a * 6 + k) = best (b * 6 + k))) (decide_eq_true e)] at next
      exact br_t (by rw [e1, e2]; exact e) (nm_r (nI_1 _) (nm_r (nI_1 i) next))
    · rw [cn_sf (p := fun k => decide (best (a * 6 + k) = best (b * 6 + k))) (decide_eq_false e)] at next
      exact br_f (by rw [e1, e2]; exact e) (nm_r (nI_1 i) next)
end
/-! the constructors -/
def cs_P : Nat → Nat → Int32
  | 0 => fun _ => 0
  | i + 1 => upd (cs_P i) i (nI i)
section
variable {fv fc : Int32} {K V S : Nat → Int32} {dep come shown : Nat → Int64} {lk best : Nat → Int32} {seen : Nat → Int64} {sst ch nd yc hs sh : Nat → Int32}
theorem x0_p {post : SX → Prop} (hp : post (fv, fc, K, V, S, dep, come, shown, lk, best, cs_P 3, seen, sst, ch)) :
    ∀ d i, i + d = 3 → ∀ f, d < f → wX_init_119 post fv fc f (nI i) K V S dep come shown lk best (cs_P i) seen sst ch := by
  intro d
  induction d with
  | zero =>
    intro i hi f hf
    obtain ⟨f, rfl⟩ : ∃ g, f = g + 1 := ⟨f - 1, by omega⟩
    obtain rfl : i = 3 := by omega
    exact br_t (nI_le (a := 3) (by omega) (by omega)) hp
  | succ d ih =>
    intro i hi f hf
    obtain ⟨f, rfl⟩ : ∃ g, f = g + 1 := ⟨f - 1, by omega⟩
    exact br_f (nI_ge (b := 3) (by omega) (by omega)) (And.intro (pk_in i 3 (by omega)) (nm_r (e' := cs_P (i + 1)) (by rw [cs_cl (by omega)]; rfl) (nm_r (nI_1 i) (ih (i + 1) (by omega) f (by omega)))))
theorem x0_b {post : SX → Prop} {P : Nat → Int32} (hq : ∀ best, (∀ j, j < 18 → best j = -5) → ∃ m, wX_init_119 post fv fc m 0 K V S dep come shown lk best P seen sst ch) :
    ∀ d i, i + d = 18 → ∀ best, (∀ j, j < i → best j = -5) → ∀ f, d < f → wX_init_97 post fv fc f (nI i) K V S dep come shown lk best P seen sst ch := by
  intro d
  induction d with
  | zero =>
    intro i hi best hb f hf
    obtain ⟨f, rfl⟩ : ∃ g, f = g + 1 := ⟨f - 1, by omega⟩
    exact br_t (nI_le (a := 18) (by omega) (by omega)) (hq best (fun j hj => hb j (by omega)))
  | succ d ih =>
    intro i hi best hb f hf
    obtain ⟨f, rfl⟩ : ∃ g, f = g + 1 := ⟨f - 1, by omega⟩
    refine br_f (nI_ge (b := 18) (by omega) (by omega)) (And.intro (pk_in i 18 (by omega)) (nm_r (e' := upd best i (-5)) (by rw [cs_cl (by omega)]) (nm_r (nI_1 i) (ih (i + 1) (by omega) _ (fun j hj => ?_) f (by omega)))))
    by_cases e : j = i
    · rw [e, pk_us]
    · rw [pk_un e]; exact hb j (by omega)
theorem y0_p {post : SY → Prop} (hp : post (fv, K, V, S, nd, yc, hs, cs_P 3, sh)) :
    ∀ d i, i + d = 3 → ∀ f, d < f → wY_init_70 post fv f (nI i) K V S nd yc hs (cs_P i) sh := by
  intro d
  induction d with
  | zero =>
    intro i hi f hf
    obtain ⟨f, rfl⟩ : ∃ g, f = g + 1 := ⟨f - 1, by omega⟩
    obtain rfl : i = 3 := by omega
    exact br_t (nI_le (a := 3) (by omega) (by omega)) hp
  | succ d ih =>
    intro i hi f hf
    obtain ⟨f, rfl⟩ : ∃ g, f = g + 1 := ⟨f - 1, by omega⟩
    exact br_f (nI_ge (b := 3) (by omega) (by omega)) (And.intro (pk_in i 3 (by omega)) (nm_r (e' := cs_P (i + 1)) (by rw [cs_cl (by omega)]; rfl) (nm_r (nI_1 i) (ih (i + 1) (by omega) f (by omega)))))
end
theorem cs_R0 {best : Nat → Int32} (hb : ∀ j, j < 18 → best j = -5) :
    cs_R 0 (fun _ => 0) (fun _ => 0) (cs_P 3) (fun _ => 0) (fun _ => 0) (fun _ => 0) (fun _ => 0) best (fun _ => 0) (fun _ => 0) (fun _ => 0) (fun _ => 0) (fun _ => 0) := by
  have hF : ∀ v, ¬ cs_bl 0 v = true := fun v h => absurd ((cs_b0 v).symm.trans h) (by decide)
  refine ⟨fun v hv => absurd hv (by omega), fun c hc => ⟨c, hc, ?_⟩, fun c hc => ⟨fun v hv => absurd hv (hF v), fun v => ⟨fun h => absurd h (hF v), fun h => absurd h.1 (by omega)⟩, fun w hw => absurd hw (by omega), fun k hk => Or.inl ⟨hb _ (by omega), fun v hv => absurd hv (hF v)⟩⟩,
    fun c hc => ⟨fun v hv => absurd hv (hF v), Int32.le_refl _, fun v hv => absurd hv (hF v), Or.inl rfl⟩, by omega, fun a b ha => absurd ha (by omega), fun a b _ _ => ?_, fun c v _ _ => ?_, fun c v _ _ => ?_⟩
  · have h3 : c = 0 ∨ c = 1 ∨ c = 2 := by omega
    rcases h3 with rfl | rfl | rfl <;> rfl
  · rw [decide_eq_false (show ¬ a < 0 by omega)]; rfl
  · show (0 : Int32) = cs_1 (cs_bl 0 v)
    rw [cs_b0]; rfl
  · show (0 : Int32) = cs_1 (cs_bl 0 v)
    rw [cs_b0]; rfl
theorem i_vc0 : wpX_init (fun u => wpY_init (fun v => i_Rel 0 u v)) := by
  refine Exists.intro 19 (x0_b (fun best hb => Exists.intro 4 (x0_p ?_ 3 0 (by omega) 4 (by omega))) 18 0 (by omega) (fun _ => 0) (fun j hj => absurd hj (by omega)) 19 (by omega))
  exact Exists.intro 4 (y0_p (cs_mk (n := 0) (cs_R0 hb)) 3 0 (by omega) 4 (by omega))
end
section
/-! ===== the owed statements: questions ===== -/
theorem i_vc_value {k : Nat} {u : SX} {v : SY} (I : i_Rel k u v) (hk : k + 4 ≤ 2048) (v1 : Int32) : wpX_value (fun r => wpY_value (fun r' => r' = r ∧ i_Rel (k + 4) u v) v v1) u v1 := by
  refine cs_el (Q := fun u v => wpX_value (fun r => wpY_value (fun r' => r' = r ∧ i_Rel (k + 4) u v) v v1) u v1) ?_ I
  intro n fc K V S P dep come shown lk best seen sst ch nd yc hs sh R
  have hn : n ≤ 40 := R.2.2.2.2.1
  unfold wpX_value
  dsimp only
  rcases cs_io v1 n (by omega) with ho | ⟨j, hj, rfl⟩
  · refine xg_ver_o ho ?_
    refine br_f (by decide) ?_
    unfold wpY_value
    dsimp only
    refine yg_ver_o ho ?_
    exact br_t rfl ⟨rfl, cs_mk R⟩
  · refine xg_ver_i hn hj ?_
    refine br_t rfl (And.intro (pk_in j 40 (by omega)) ?_)
    unfold wpY_value
    dsimp only
    refine yg_ver_i hn hj ?_
    exact br_f (by decide) (And.intro (pk_in j 40 (by omega)) ⟨rfl, cs_mk R⟩)
theorem i_vc_stamp {k : Nat} {u : SX} {v : SY} (I : i_Rel k u v) (hk : k + 4 ≤ 2048) (v1 : Int32) : wpX_stamp (fun r => wpY_stamp (fun r' => r' = r ∧ i_Rel (k + 4) u v) v v1) u v1 := by
  refine cs_el (Q := fun u v => wpX_stamp (fun r => wpY_stamp (fun r' => r' = r ∧ i_Rel (k + 4) u v) v v1) u v1) ?_ I
  intro n fc K V S P dep come shown lk best seen sst ch nd yc hs sh R
  have hn : n ≤ 40 := R.2.2.2.2.1
  unfold wpX_stamp
  dsimp only
  rcases cs_io v1 n (by omega) with ho | ⟨j, hj, rfl⟩
  · refine xg_ver_o ho ?_
    refine br_f (by decide) ?_
    unfold wpY_stamp
    dsimp only
    refine yg_ver_o ho ?_
    exact br_t rfl ⟨rfl, cs_mk R⟩
  · refine xg_ver_i hn hj ?_
    refine br_t rfl (And.intro (pk_in j 40 (by omega)) ?_)
    unfold wpY_stamp
    dsimp only
    refine yg_ver_i hn hj ?_
    exact br_f (by decide) (And.intro (pk_in j 40 (by omega)) ⟨rfl, cs_mk R⟩)
theorem i_vc_depends {k : Nat} {u : SX} {v : SY} (I : i_Rel k u v) (hk : k + 4 ≤ 2048) (v1 : Int32) (v2 : Int32) : wpX_depends (fun r => wpY_depends (fun r' => r' = r ∧ i_Rel (k + 4) u v) v v1 v2) u v1 v2 := by
  refine cs_el (Q := fun u v => wpX_depends (fun r => wpY_depends (fun r' => r' = r ∧ i_Rel (k + 4) u v) v v1 v2) u v1 v2) ?_ I
  intro n fc K V S P dep come shown lk best seen sst ch nd yc hs sh R
  have hn : n ≤ 40 := R.2.2.2.2.1
  obtain ⟨_, hlt, hD, _, _⟩ := R.2.2.2.2
  unfold wpX_depends
  dsimp only
  rcases cs_io v1 n (by omega) with ho | ⟨a, ha, rfl⟩
  · refine xg_ver_o ho ?_
    refine br_f (by decide) ?_
    unfold wpY_depends
    dsimp only
    refine yg_ver_o ho ?_
    exact br_t rfl ⟨rfl, cs_mk R⟩
  · refine xg_ver_i hn ha ?_
    refine br_t rfl ?_
    rcases cs_io v2 n (by omega) with ho | ⟨b, hb, rfl⟩
    · refine xg_ver_o ho ?_
      refine br_f (by decide) ?_
      unfold wpY_depends
      dsimp only
      refine yg_ver_i hn ha ?_
      refine br_f (by decide) ?_
      refine yg_ver_o ho ?_
      exact br_t rfl ⟨rfl, cs_mk R⟩
    · refine xg_ver_i hn hb ?_
      refine br_t rfl (And.intro (pk_in a 40 (by omega)) ?_)
      have e1 : nd (nI a * 40 + nI b).toNatClampNeg = cs_1 (cs_bl (dep a) b) := by
        rw [cs_cl40 (by omega), hD a b (by omega) (by omega), decide_eq_true ha, Bool.true_and]
      have hY : ∀ r : Int32, r = cs_1 (cs_bl (dep a) b) → wpY_depends (fun r' => r' = r ∧ i_Rel (k + 4) (nI n, fc, K, V, S, dep, come, shown, lk, best, P, seen, sst, ch) (nI n, K, V, S, nd, yc, hs, P, sh)) (nI n, K, V, S, nd, yc, hs, P, sh) (nI a) (nI b) := by
        intro r hr
        unfold wpY_depends
        dsimp only
        refine yg_ver_i hn ha ?_
        refine br_f (by decide) ?_
        refine yg_ver_i hn hb ?_
        refine br_f (by decide) ?_
        by_cases l : a ≤ b
        · refine br_t (nI_le l (by omega)) ⟨?_, cs_mk R⟩
          rw [hr]
          cases e : cs_bl (dep a) b
          · rfl
          · exact absurd (hlt a b ha e) (by omega)
        · refine br_f (nI_ge (by omega) (by omega)) (And.intro (pk_in (a * 40 + b) 1600 (by omega) (cs_ix40 a b)) ?_)
          refine cs_1br e1 (fun z => ⟨?_, cs_mk R⟩) (fun z => ⟨?_, cs_mk R⟩)
          · rw [hr, z]; rfl
          · rw [hr, z]; rfl
      refine xh_has (w' := dep a) (congrArg dep (cs_cl (by omega))) (by omega) (fun h => And.intro rfl ?_) (fun h => And.intro rfl ?_)
      · exact hY 1 (by rw [h]; rfl)
      · exact hY 0 (by rw [h]; rfl)
theorem i_vc_visible {k : Nat} {u : SX} {v : SY} (I : i_Rel k u v) (hk : k + 4 ≤ 2048) (v1 : Int32) (v2 : Int32) : wpX_visible (fun r => wpY_visible (fun r' v' => r' = r ∧ i_Rel (k + 4) u v') v v1 v2) u v1 v2 := by
  refine cs_el (Q := fun u v => wpX_visible (fun r => wpY_visible (fun r' v' => r' = r ∧ i_Rel (k + 4) u v') v v1 v2) u v1 v2) ?_ I
  intro n fc K V S P dep come shown lk best seen sst ch nd yc hs sh R
  have hn : n ≤ 40 := R.2.2.2.2.1
  unfold wpX_visible
  dsimp only
  rcases cs_io v1 n (by omega) with ho | ⟨a, ha, rfl⟩
  · refine xg_ver_o ho ?_
    refine br_f (by decide) ?_
    unfold wpY_visible
    dsimp only
    refine yg_ver_o ho ?_
    exact br_t rfl ⟨rfl, cs_mk R⟩
  · refine xg_ver_i hn ha ?_
    refine br_t rfl ?_
    rcases cs_io v2 3 (by omega) with ho | ⟨c, hc, rfl⟩
    · refine xg_ce_o ho ?_
      refine br_f (by decide) ?_
      unfold wpY_visible
      dsimp only
      refine yg_ver_i hn ha ?_
      refine br_f (by decide) ?_
      refine yg_three_o ho ?_
      exact br_t rfl ⟨rfl, cs_mk R⟩
    · refine xg_ce_i hc ?_
      refine br_t rfl (And.intro (pk_in c 3 hc) ?_)
      obtain ⟨_, x2, _, _⟩ := R.2.2.1 c hc
      have hY : ∀ r : Int32, r = cs_1 (cs_bl (shown c) a) → wpY_visible (fun r' v' => r' = r ∧ i_Rel (k + 4) (nI n, fc, K, V, S, dep, come, shown, lk, best, P, seen, sst, ch) v') (nI n, K, V, S, nd, yc, hs, P, sh) (nI a) (nI c) := by
        intro r hr
        unfold wpY_visible
        dsimp only
        refine yg_ver_i hn ha ?_
        refine br_f (by decide) ?_
        refine yg_three_i hc ?_
        refine br_f (by decide) ?_
        refine ym_sweep R.2.2.2.2 hc x2 (fun sh' hsh => ?_)
        have e1 : sh' (nI a).toNatClampNeg = cs_1 (cs_bl (shown c) a) := by rw [cs_cl (by omega)]; exact hsh a (by omega)
        dsimp only
        rw [e1]
        exact And.intro (pk_in a 40 (by omega)) (And.intro (cs_1n _) ⟨hr.symm, cs_mk R⟩)
      refine xh_has (w' := shown c) (congrArg shown (cs_cl (by omega))) (by omega) (fun h => And.intro rfl ?_) (fun h => And.intro rfl ?_)
      · exact hY 1 (by rw [h]; rfl)
      · exact hY 0 (by rw [h]; rfl)
theorem i_vc_winner {k : Nat} {u : SX} {v : SY} (I : i_Rel k u v) (hk : k + 4 ≤ 2048) (v1 : Int32) (v2 : Int32) : wpX_winner (fun r => wpY_winner (fun r' v' => r' = r ∧ i_Rel (k + 4) u v') v v1 v2) u v1 v2 := by
  refine cs_el (Q := fun u v => wpX_winner (fun r => wpY_winner (fun r' v' => r' = r ∧ i_Rel (k + 4) u v') v v1 v2) u v1 v2) ?_ I
  intro n fc K V S P dep come shown lk best seen sst ch nd yc hs sh R
  have hn : n ≤ 40 := R.2.2.2.2.1
  unfold wpX_winner
  dsimp only
  rcases cs_io v1 3 (by omega) with ho | ⟨c, hc, rfl⟩
  · refine xg_ce_o ho ?_
    refine br_f (by decide) ?_
    unfold wpY_winner
    dsimp only
    refine yg_three_o ho ?_
    exact br_t rfl ⟨rfl, cs_mk R⟩
  · refine xg_ce_i hc ?_
    refine br_t rfl ?_
    rcases cs_io v2 6 (by omega) with ho | ⟨j, hj, rfl⟩
    · refine xg_key_o ho ?_
      unfold wpY_winner
      dsimp only
      refine yg_three_i hc ?_
      refine br_f (by decide) ?_
      refine yg_key_o ho ?_
      exact br_t rfl ⟨rfl, cs_mk R⟩
    · refine xg_key_i hj (And.intro (pk_in (c * 6 + j) 18 (by omega) (cs_ix6 c j)) ?_)
      obtain ⟨_, x2, _, x4⟩ := R.2.2.1 c hc
      refine ym_winner R.2.2.2.2 hc hj x2 (fun x sh' hx => ⟨?_, cs_mk R⟩)
      rw [cs_cl6 (by omega)]
      exact cb_un hx (x4 j hj)
theorem i_vc_held {k : Nat} {u : SX} {v : SY} (I : i_Rel k u v) (hk : k + 4 ≤ 2048) (v1 : Int32) : wpX_held (fun r => wpY_held (fun r' v' => r' = r ∧ i_Rel (k + 4) u v') v v1) u v1 := by
  refine cs_el (Q := fun u v => wpX_held (fun r => wpY_held (fun r' v' => r' = r ∧ i_Rel (k + 4) u v') v v1) u v1) ?_ I
  intro n fc K V S P dep come shown lk best seen sst ch nd yc hs sh R
  have hn : n ≤ 40 := R.2.2.2.2.1
  unfold wpX_held
  dsimp only
  rcases cs_io v1 3 (by omega) with ho | ⟨c, hc, rfl⟩
  · refine xg_ce_o ho ?_
    refine br_f (by decide) ?_
    unfold wpY_held
    dsimp only
    refine yg_three_o ho ?_
    exact br_t rfl ⟨rfl, cs_mk R⟩
  · obtain ⟨x1, x2, _, x4⟩ := R.2.2.1 c hc
    have ec : (nI c).toNatClampNeg = c := cs_cl (by omega)
    refine xg_ce_i hc ?_
    refine br_t rfl (And.intro (pk_in c 3 hc) (And.intro (pk_in c 3 hc) ?_))
    refine xb_bits ?_
    rw [ec]
    have e1 : cs_n (cs_bl (come c &&& (shown c ^^^ (-1)))) 40 = cs_n (fun v => cs_bl (come c) v && !cs_bl (shown c) v) n := by
      rw [cn_cg (q := fun v => cs_bl (come c) v && !cs_bl (shown c) v) 40 (fun b _ => cs_an (come c) (shown c) b)]
      refine cn_ext (fun i hi => ?_) 40 hn
      show (cs_bl (come c) i && !cs_bl (shown c) i) = false
      cases e : cs_bl (come c) i
      · rfl
      · exact absurd (x1 i e) (by omega)
    rw [e1]
    unfold wpY_held
    dsimp only
    refine yg_three_i hc ?_
    refine br_f (by decide) ?_
    refine ym_sweep R.2.2.2.2 hc x2 (fun sh' hsh => ?_)
    exact Exists.intro (n + 1) (ym_held (Cc := cs_bl (come c)) (T := cs_bl (shown c)) hc hn (fun v hv => R.2.2.2.2.2.2.2.1 c v hc hv) hsh ⟨rfl, cs_mk R⟩ n 0 (by omega) (n + 1) (by omega))
theorem i_vc_seen {k : Nat} {u : SX} {v : SY} (I : i_Rel k u v) (hk : k + 4 ≤ 2048) (v1 : Int32) : wpX_seen (fun r => wpY_seen (fun r' => r' = r ∧ i_Rel (k + 4) u v) v v1) u v1 := by
  refine cs_el (Q := fun u v => wpX_seen (fun r => wpY_seen (fun r' => r' = r ∧ i_Rel (k + 4) u v) v v1) u v1) ?_ I
  intro n fc K V S P dep come shown lk best seen sst ch nd yc hs sh R
  have hn : n ≤ 40 := R.2.2.2.2.1
  unfold wpX_seen
  dsimp only
  rcases cs_io v1 3 (by omega) with ho | ⟨c, hc, rfl⟩
  · refine xg_cl_o ho ?_
    refine br_f (by decide) ?_
    unfold wpY_seen
    dsimp only
    refine yg_three_o ho ?_
    exact br_t rfl ⟨rfl, cs_mk R⟩
  · obtain ⟨x1, _⟩ := R.2.2.2.1 c hc
    have ec : (nI c).toNatClampNeg = c := cs_cl (by omega)
    refine xg_cl_i hc ?_
    refine br_t rfl (And.intro (pk_in c 3 hc) ?_)
    refine xb_bits ?_
    rw [ec]
    have e1 : cs_n (cs_bl (seen c)) 40 = cs_n (cs_bl (seen c)) n := by
      refine cn_ext (fun i hi => ?_) 40 hn
      cases e : cs_bl (seen c) i
      · rfl
      · exact absurd (x1 i e) (by omega)
    rw [e1]
    unfold wpY_seen
    dsimp only
    refine yg_three_i hc ?_
    refine br_f (by decide) ?_
    exact Exists.intro (n + 1) (ym_seen (Hc := cs_bl (seen c)) hc hn (fun v hv => R.2.2.2.2.2.2.2.2 c v hc hv) ⟨rfl, cs_mk R⟩ n 0 (by omega) (n + 1) (by omega))
theorem i_vc_agree {k : Nat} {u : SX} {v : SY} (I : i_Rel k u v) (hk : k + 4 ≤ 2048) (v1 : Int32) (v2 : Int32) : wpX_agree (fun r => wpY_agree (fun r' v' => r' = r ∧ i_Rel (k + 4) u v') v v1 v2) u v1 v2 := by
  refine cs_el (Q := fun u v => wpX_agree (fun r => wpY_agree (fun r' v' => r' = r ∧ i_Rel (k + 4) u v') v v1 v2) u v1 v2) ?_ I
  intro n fc K V S P dep come shown lk best seen sst ch nd yc hs sh R
  have hn : n ≤ 40 := R.2.2.2.2.1
  unfold wpX_agree
  dsimp only
  rcases cs_io v1 3 (by omega) with ho | ⟨a, ha, rfl⟩
  · refine xg_ce_o ho ?_
    refine br_f (by decide) ?_
    unfold wpY_agree
    dsimp only
    refine yg_three_o ho ?_
    exact br_t rfl ⟨rfl, cs_mk R⟩
  · refine xg_ce_i ha ?_
    refine br_t rfl ?_
    rcases cs_io v2 3 (by omega) with ho | ⟨b, hb, rfl⟩
    · refine xg_ce_o ho ?_
      refine br_f (by decide) ?_
      unfold wpY_agree
      dsimp only
      refine yg_three_i ha ?_
      refine br_f (by decide) ?_
      refine yg_three_o ho ?_
      exact br_t rfl ⟨rfl, cs_mk R⟩
    · refine xg_ce_i hb ?_
      refine br_t rfl ?_
      obtain ⟨_, a2, _, a4⟩ := R.2.2.1 a ha
      obtain ⟨_, b2, _, b4⟩ := R.2.2.1 b hb
      refine Exists.intro 7 (xg_loop ha hb ?_ 6 0 (by omega) 7 (by omega))
      unfold wpY_agree
      dsimp only
      refine yg_three_i ha ?_
      refine br_f (by decide) ?_
      refine yg_three_i hb ?_
      refine br_f (by decide) ?_
      exact Exists.intro 7 (ym_agree (B1 := fun k => best (a * 6 + k)) (B2 := fun k => best (b * 6 + k)) R.2.2.2.2 ha hb a2 b2 a4 b4 (fun sh' => ⟨rfl, cs_mk R⟩) 6 0 (by omega) sh 7 (by omega))
end
section
/-! ===== the owed statements: read, move, deliveries ===== -/
theorem i_vc_read {k : Nat} {u : SX} {v : SY} (I : i_Rel k u v) (hk : k + 4 ≤ 2048) (v1 : Int32) (v2 : Int32) : wpX_read (fun r u' => wpY_read (fun r' v' => r' = r ∧ i_Rel (k + 4) u' v') v v1 v2) u v1 v2 := by
  refine cs_el (Q := fun u v => wpX_read (fun r u' => wpY_read (fun r' v' => r' = r ∧ i_Rel (k + 4) u' v') v v1 v2) u v1 v2) ?_ I
  intro n fc K V S P dep come shown lk best seen sst ch nd yc hs sh R
  have hn : n ≤ 40 := R.2.2.2.2.1
  unfold wpX_read
  dsimp only
  rcases cs_io v1 3 (by omega) with ho | ⟨c, hc, rfl⟩
  · refine xg_cl_o ho ?_
    refine br_f (by decide) ?_
    unfold wpY_read
    dsimp only
    refine yg_three_o ho ?_
    exact br_t rfl ⟨rfl, cs_mk R⟩
  · refine xg_cl_i hc ?_
    refine br_t rfl ?_
    rcases cs_io v2 6 (by omega) with ho | ⟨j, hj, rfl⟩
    · refine xg_key_o ho ?_
      unfold wpY_read
      dsimp only
      refine yg_three_i hc ?_
      refine br_f (by decide) ?_
      refine yg_key_o ho ?_
      exact br_t rfl ⟨rfl, cs_mk R⟩
    · obtain ⟨rK, rP, rX, rM, rY⟩ := R
      obtain ⟨p, hp, ep⟩ := rP c hc
      have eP : P (nI c).toNatClampNeg = nI p := by rw [cs_cl (by omega)]; exact ep
      obtain ⟨x1, x2, x3, x4⟩ := rX p hp
      have e1 : best (P (nI c).toNatClampNeg * 6 + nI j).toNatClampNeg = best (p * 6 + j) := by rw [eP, cs_cl6 (by omega)]
      have hB := x4 j hj
      have hin : vp_in (P (nI c).toNatClampNeg * 6 + nI j) 18 := pk_in (p * 6 + j) 18 (by omega) (by rw [eP]; exact cs_ix6 p j)
      refine xg_key_i hj (And.intro (pk_in c 3 hc) (And.intro hin (nm_r e1 ?_)))
      rcases hB with ⟨e5, h5⟩ | ⟨w, hw, ew, tw, kw, hbest⟩
      · refine br_t (by rw [e5]; decide) ?_
        unfold wpY_read
        dsimp only
        refine yg_three_i hc ?_
        refine br_f (by decide) ?_
        refine yg_key_i hj ?_
        refine br_f (by decide) (And.intro (pk_in c 3 hc) ?_)
        rw [eP]
        refine ym_winner rY hp hj x2 (fun x sh' hx => ?_)
        have ex : x = best (p * 6 + j) := cb_un hx (x4 j hj)
        subst ex
        exact br_t (by rw [e5]; decide) ⟨rfl, cs_mk ⟨rK, rP, rX, rM, rY⟩⟩
      · have hwn : w < n := ((x2 w).mp tw).1
        rw [ew]
        refine br_f (nI_pos (by omega)) ?_
        refine xs_see hc hw (fun seen' sst' hb ho1 ho2 hm => ?_)
        dsimp only
        unfold wpY_read
        dsimp only
        refine yg_three_i hc ?_
        refine br_f (by decide) ?_
        refine yg_key_i hj ?_
        refine br_f (by decide) (And.intro (pk_in c 3 hc) ?_)
        rw [eP]
        refine ym_winner rY hp hj x2 (fun x sh' hx => ?_)
        have ex : x = nI w := (cb_un hx (x4 j hj)).trans ew
        subst ex
        have e2 : upd hs (nI c * 40 + nI w).toNatClampNeg (vp_nar .boolean 1) = upd hs (c * 40 + w) 1 := by rw [cs_cl40 (by omega)]; rfl
        refine br_f (nI_pos (by omega)) (And.intro (pk_in (c * 40 + w) 120 (by omega) (cs_ix40 c w)) (nm_r e2 ⟨rfl, cs_mk ⟨rK, rP, rX, fun d hd => ?_, ?_⟩⟩))
        · by_cases e : d = c
          · subst e
            obtain ⟨m1, m2⟩ := rM d hd
            refine ⟨fun z hz => ?_, hm m2⟩
            rw [hb z] at hz
            by_cases ez : z = w
            · rw [ez]; exact hwn
            · rw [decide_eq_false ez, Bool.or_false] at hz; exact m1 z hz
          · rw [ho1 d e, ho2 d e]; exact rM d hd
        · obtain ⟨y1, y2, y3, y4, y5⟩ := rY
          exact ⟨y1, y2, y3, y4, cy_set (by omega) y5 hb (fun x hx => by rw [ho1 x hx])⟩
theorem i_vc_move {k : Nat} {u : SX} {v : SY} (I : i_Rel k u v) (hk : k + 4 ≤ 2048) (v1 : Int32) (v2 : Int32) : wpX_move (fun r u' => wpY_move (fun r' v' => r' = r ∧ i_Rel (k + 4) u' v') v v1 v2) u v1 v2 := by
  refine cs_el (Q := fun u v => wpX_move (fun r u' => wpY_move (fun r' v' => r' = r ∧ i_Rel (k + 4) u' v') v v1 v2) u v1 v2) ?_ I
  intro n fc K V S P dep come shown lk best seen sst ch nd yc hs sh R
  have hn : n ≤ 40 := R.2.2.2.2.1
  unfold wpX_move
  dsimp only
  rcases cs_io v1 3 (by omega) with ho | ⟨c, hc, rfl⟩
  · refine xg_cl_o ho ?_
    refine br_f (by decide) ?_
    unfold wpY_move
    dsimp only
    refine yg_three_o ho ?_
    exact br_t rfl ⟨rfl, cs_mk R⟩
  · refine xg_cl_i hc ?_
    refine br_t rfl ?_
    rcases cs_io v2 3 (by omega) with ho | ⟨d, hd, rfl⟩
    · refine xg_ce_o ho ?_
      refine br_f (by decide) ?_
      unfold wpY_move
      dsimp only
      refine yg_three_i hc ?_
      refine br_f (by decide) ?_
      refine yg_three_o ho ?_
      exact br_t rfl ⟨rfl, cs_mk R⟩
    · refine xg_ce_i hd ?_
      refine br_t rfl (And.intro (pk_in c 3 hc) (And.intro (pk_in d 3 hd) ?_))
      obtain ⟨rK, rP, rX, rM, rY⟩ := R
      obtain ⟨x1, x2, x3, x4⟩ := rX d hd
      have m1 := (rM c hc).1
      have eseen : seen (nI c).toNatClampNeg = seen c := congrArg seen (cs_cl (by omega))
      have eshow : shown (nI d).toNatClampNeg = shown d := congrArg shown (cs_cl (by omega))
      have hz : (seen c &&& (shown d ^^^ (-1))) = 0 ↔ ∀ w, w < n → cs_bl (seen c) w = true → cs_bl (shown d) w = true := by
        rw [cs_bz]
        constructor
        · intro h w _ hw
          have e := h w
          rw [cs_an, hw, Bool.true_and] at e
          cases z : cs_bl (shown d) w
          · rw [z] at e; exact absurd e (by decide)
          · rfl
        · intro h w
          rw [cs_an]
          cases z : cs_bl (seen c) w
          · rfl
          · rw [h w (m1 w z) z]; rfl
      have hY : ∀ (post : Int32 → SY → Prop) (sh : Nat → Int32), (∀ sh, (∀ w, w < n → cs_bl (seen c) w = true → cs_bl (shown d) w = true) → post 0 (nI n, K, V, S, nd, yc, hs, upd P c (nI d), sh)) →
          (∀ sh, ¬ (∀ w, w < n → cs_bl (seen c) w = true → cs_bl (shown d) w = true) → post (-7) (nI n, K, V, S, nd, yc, hs, P, sh)) → wpY_move post (nI n, K, V, S, nd, yc, hs, P, sh) (nI c) (nI d) := by
        intro post sh h0 h7
        unfold wpY_move
        dsimp only
        refine yg_three_i hc ?_
        refine br_f (by decide) ?_
        refine yg_three_i hd ?_
        refine br_f (by decide) ?_
        refine ym_sweep rY hd x2 (fun sh' hsh => ?_)
        refine Exists.intro (n + 1) (ym_move (Hc := cs_bl (seen c)) (T := cs_bl (shown d)) hc hn (fun v hv => rY.2.2.2.2 c v hc hv) hsh (h0 sh') (fun w hw h1 h2 => h7 sh' (fun h => ?_)) n 0 (by omega) (fun v hv => absurd hv (by omega)) (n + 1) (by omega))
        exact absurd (h2.symm.trans (h w hw h1)) (by decide)
      rw [eseen, eshow]
      by_cases e : (seen c &&& (shown d ^^^ (-1))) = 0
      · refine br_t e (And.intro (pk_in c 3 hc) (nm_r (e' := upd P c (nI d)) (by rw [cs_cl (by omega)]) ?_))
        refine hY _ sh (fun sh' _ => ⟨rfl, cs_mk ⟨rK, fun x hx => ?_, rX, rM, rY⟩⟩) (fun sh' h => absurd (hz.mp e) h)
        by_cases e : x = c
        · rw [e, pk_us]; exact ⟨d, hd, rfl⟩
        · rw [pk_un e]; exact rP x hx
      · exact br_f e (hY _ sh (fun sh' h => absurd (hz.mpr h) e) (fun sh' _ => ⟨rfl, cs_mk ⟨rK, rP, rX, rM, rY⟩⟩))
theorem i_vc_deliver {k : Nat} {u : SX} {v : SY} (I : i_Rel k u v) (hk : k + 4 ≤ 2048) (v1 : Int32) (v2 : Int32) : wpX_deliver (fun r u' => wpY_deliver (fun r' v' => r' = r ∧ i_Rel (k + 4) u' v') v v1 v2) u v1 v2 := by
  refine cs_el (Q := fun u v => wpX_deliver (fun r u' => wpY_deliver (fun r' v' => r' = r ∧ i_Rel (k + 4) u' v') v v1 v2) u v1 v2) ?_ I
  intro n fc K V S P dep come shown lk best seen sst ch nd yc hs sh R
  have hn : n ≤ 40 := R.2.2.2.2.1
  unfold wpX_deliver
  dsimp only
  rcases cs_io v1 n (by omega) with ho | ⟨w, hw, rfl⟩
  · refine xg_ver_o ho ?_
    refine br_f (by decide) ?_
    unfold wpY_deliver
    dsimp only
    refine yg_ver_o ho ?_
    exact br_t rfl ⟨rfl, cs_mk R⟩
  · refine xg_ver_i hn hw ?_
    refine br_t rfl ?_
    rcases cs_io v2 3 (by omega) with ho | ⟨c, hc, rfl⟩
    · refine xg_ce_o ho ?_
      refine br_f (by decide) ?_
      unfold wpY_deliver
      dsimp only
      refine yg_ver_i hn hw ?_
      refine br_f (by decide) ?_
      refine yg_three_o ho ?_
      exact br_t rfl ⟨rfl, cs_mk R⟩
    · refine xg_ce_i hc ?_
      refine br_t rfl (And.intro (pk_in c 3 hc) ?_)
      have R' := R
      obtain ⟨rK, rP, rX, rM, rY⟩ := R
      obtain ⟨y1, y2, y3, y4, y5⟩ := rY
      obtain ⟨x1, x2, x3, x4⟩ := rX c hc
      have hin : vp_in (nI c * 40 + nI w) 120 := pk_in (c * 40 + w) 120 (by omega) (cs_ix40 c w)
      have e1 : yc (nI c * 40 + nI w).toNatClampNeg = cs_1 (cs_bl (come c) w) := by rw [cs_cl40 (by omega)]; exact y4 c w hc (by omega)
      have e2 : upd yc (nI c * 40 + nI w).toNatClampNeg (vp_nar .boolean 1) = upd yc (c * 40 + w) 1 := by rw [cs_cl40 (by omega)]; rfl
      refine xh_has (w' := come c) (congrArg come (cs_cl (by omega))) (by omega) (fun hC => ?_) (fun hC => ?_)
      · refine br_f (by decide) ?_
        unfold wpY_deliver
        dsimp only
        refine yg_ver_i hn hw ?_
        refine br_f (by decide) ?_
        refine yg_three_i hc ?_
        refine br_f (by decide) (And.intro hin ?_)
        exact br_f (by rw [e1, hC]; decide) ⟨rfl, cs_mk R'⟩
      · refine br_t rfl ?_
        refine xa_arrive hn hc hw y2 rK rX hC (fun r fc2 come2 shown2 lk2 best2 ch2 hX2 hb ho hr => ?_)
        dsimp only
        unfold wpY_deliver
        dsimp only
        refine yg_ver_i hn hw ?_
        refine br_f (by decide) ?_
        refine yg_three_i hc ?_
        refine br_f (by decide) (And.intro hin ?_)
        refine br_t (by rw [e1, hC]; rfl) ?_
        refine ym_sweep ⟨y1, y2, y3, y4, y5⟩ hc x2 (fun sh1 _ => ?_)
        refine And.intro hin (nm_r e2 ?_)
        have hY2 : cs_Y n (fun a => cs_bl (dep a)) (fun d => cs_bl (come2 d)) (fun d => cs_bl (seen d)) nd (upd yc (c * 40 + w) 1) hs :=
          ⟨y1, y2, y3, cy_set (by omega) y4 hb (fun x hx => by rw [ho x hx]), y5⟩
        obtain ⟨_, z2, _, _⟩ := hX2 c hc
        refine ym_sweep hY2 hc z2 (fun sh2 _ => ⟨?_, cs_mk ⟨rK, rP, hX2, rM, hY2⟩⟩)
        have t1 : cs_n (cs_bl (shown c)) 40 = cs_n (cs_bl (shown c)) n := cn_ext (fun i hi => cv_lt x2 hi) 40 hn
        have t2 : cs_n (cs_bl (shown2 c)) 40 = cs_n (cs_bl (shown2 c)) n := cn_ext (fun i hi => cv_lt z2 hi) 40 hn
        rw [pk_sub (by omega)]
        exact congrArg nI (by omega)
theorem i_vc_deliverAll {k : Nat} {u : SX} {v : SY} (I : i_Rel k u v) (hk : k + 4 ≤ 2048) (v1 : Int32) : wpX_deliverAll (fun r u' => wpY_deliverAll (fun r' v' => r' = r ∧ i_Rel (k + 4) u' v') v v1) u v1 := by
  refine cs_el (Q := fun u v => wpX_deliverAll (fun r u' => wpY_deliverAll (fun r' v' => r' = r ∧ i_Rel (k + 4) u' v') v v1) u v1) ?_ I
  intro n fc K V S P dep come shown lk best seen sst ch nd yc hs sh R
  have hn : n ≤ 40 := R.2.2.2.2.1
  unfold wpX_deliverAll
  dsimp only
  rcases cs_io v1 3 (by omega) with ho | ⟨c, hc, rfl⟩
  · refine xg_ce_o ho ?_
    refine br_f (by decide) ?_
    unfold wpY_deliverAll
    dsimp only
    refine yg_three_o ho ?_
    exact br_t rfl ⟨rfl, cs_mk R⟩
  · refine xg_ce_i hc ?_
    refine br_t rfl (Exists.intro (n + 1) ?_)
    obtain ⟨rK, rP, rX, rM, rY⟩ := R
    obtain ⟨y1, y2, y3, y4, y5⟩ := rY
    obtain ⟨x1, x2, x3, x4⟩ := rX c hc
    refine xd_loop (t := cs_n (cs_bl (shown c)) 40) (come0 := come) hn hc y2 rK (fun r fc2 come2 shown2 lk2 best2 ch2 hX2 hb ho hr => ?_) n 0 (by omega) 0 fc come shown lk best ch rX (fun w => by rw [decide_eq_false (show ¬ w < 0 by omega), Bool.or_false]) (fun _ _ => rfl) (Nat.zero_add _) (n + 1) (by omega)
    unfold wpY_deliverAll
    dsimp only
    refine yg_three_i hc ?_
    refine br_f (by decide) ?_
    refine ym_sweep ⟨y1, y2, y3, y4, y5⟩ hc x2 (fun sh1 _ => ?_)
    obtain ⟨_, z2, _, _⟩ := hX2 c hc
    refine Exists.intro (n + 1) (ym_all (D := fun a => cs_bl (dep a)) (H := fun d => cs_bl (seen d)) (T := cs_bl (shown2 c)) (yc0 := yc) hc hn (fun yc' h1 h2 => ?_) n 0 (by omega) yc (fun j hj => absurd hj (by omega)) (fun _ _ => rfl) (n + 1) (by omega))
    have hY2 : cs_Y n (fun a => cs_bl (dep a)) (fun d => cs_bl (come2 d)) (fun d => cs_bl (seen d)) nd yc' hs := by
      refine ⟨y1, y2, y3, fun d w hd hw => ?_, y5⟩
      by_cases e : d = c
      · subst e
        show yc' (d * 40 + w) = cs_1 (cs_bl (come2 d) w)
        rw [hb w]
        by_cases l : w < n
        · rw [h1 w l, decide_eq_true l, Bool.or_true]; rfl
        · rw [h2 (d * 40 + w) (by omega), decide_eq_false l, Bool.or_false]; exact y4 d w hd hw
      · show yc' (d * 40 + w) = cs_1 (cs_bl (come2 d) w)
        rw [h2 (d * 40 + w) (by omega), ho d e]; exact y4 d w hd hw
    refine ⟨fun d => cs_bl (come2 d), hY2, z2, fun sh' => ⟨?_, cs_mk ⟨rK, rP, hX2, rM, hY2⟩⟩⟩
    have t1 : cs_n (cs_bl (shown c)) 40 = cs_n (cs_bl (shown c)) n := cn_ext (fun i hi => cv_lt x2 hi) 40 hn
    have t2 : cs_n (cs_bl (shown2 c)) 40 = cs_n (cs_bl (shown2 c)) n := cn_ext (fun i hi => cv_lt z2 hi) 40 hn
    rw [pk_sub (by omega)]
    exact congrArg nI (by omega)
end
section
/-! ===== the owed statements: write ===== -/
theorem cs_Rw {n c p j : Nat} {K S P : Nat → Int32} {dep come come2 shown shown2 : Nat → Int64} {lk best lk2 best2 : Nat → Int32} {seen seen2 : Nat → Int64} {sst sst2 nd yc hs nd2 : Nat → Int32}
    (R : cs_R n K S P dep come shown lk best seen sst nd yc hs) (hn : n < 40) (hc : c < 3) (hp : p < 3) (hj : j < 6)
    (hX : ∀ d, d < 3 → cs_X (n + 1) (upd K n (nI j)) (upd S n (sst c + 1)) (vp_updL dep n (seen c)) come2 shown2 lk2 best2 d)
    (hb : ∀ w, cs_bl (come2 p) w = (cs_bl (come p) w || decide (w = n))) (ho : ∀ x, x ≠ p → come2 x = come x)
    (hb2 : ∀ w, cs_bl (seen2 c) w = (cs_bl (seen c) w || decide (w = n))) (ho2 : ∀ x, x ≠ c → seen2 x = seen x) (ho3 : ∀ x, x ≠ c → sst2 x = sst x)
    (hm : cs_M (upd S n (sst c + 1)) (cs_bl (seen c)) (sst c) → cs_M (upd S n (sst c + 1)) (cs_bl (seen2 c)) (sst2 c))
    (h1 : ∀ b, b < n → nd2 (n * 40 + b) = cs_1 (cs_bl (seen c) b)) (h2 : ∀ x, (x < n * 40 ∨ n * 40 + n ≤ x) → nd2 x = nd x) :
    cs_R (n + 1) (upd K n (nI j)) (upd S n (sst c + 1)) P (vp_updL dep n (seen c)) come2 shown2 lk2 best2 seen2 sst2 nd2 (upd yc (p * 40 + n) 1) (upd hs (c * 40 + n) 1) := by
  obtain ⟨rK, rP, rX, rM, y1, y2, y3, y4, y5⟩ := R
  have hcg : ∀ d, d < 3 → cs_M (upd S n (sst c + 1)) (cs_bl (seen d)) (sst d) := by
    intro d hd
    obtain ⟨m1, m2⟩ := rM d hd
    refine cm_cg (fun v hv => ?_) m2
    have := m1 v hv
    exact pk_un (by omega)
  refine ⟨fun v hv => ?_, rP, hX, fun d hd => ?_, by omega, fun a b ha hab => ?_, fun a b ha hb' => ?_, cy_set hn y4 hb (fun x hx => by rw [ho x hx]), cy_set hn y5 hb2 (fun x hx => by rw [ho2 x hx])⟩
  · by_cases e : v = n
    · rw [e, pk_us]; exact ⟨j, hj, rfl⟩
    · rw [pk_un e]; exact rK v (by omega)
  · by_cases e : d = c
    · subst e
      refine ⟨fun z hz => ?_, hm (hcg d hd)⟩
      rw [hb2 z] at hz
      by_cases ez : z = n
      · omega
      · rw [decide_eq_false ez, Bool.or_false] at hz
        have := (rM d hd).1 z hz
        omega
    · rw [ho2 d e, ho3 d e]
      refine ⟨fun z hz => ?_, hcg d hd⟩
      have := (rM d hd).1 z hz
      omega
  · have hab : cs_bl (vp_updL dep n (seen c) a) b = true := hab
    by_cases e : a = n
    · rw [e, pk_uLs] at hab
      rw [e]
      exact (rM c hc).1 b hab
    · rw [pk_uLn e] at hab
      exact y2 a b (by omega) hab
  · show nd2 (a * 40 + b) = cs_1 (decide (a < n + 1) && cs_bl (vp_updL dep n (seen c) a) b)
    by_cases e : a = n
    · subst e
      rw [decide_eq_true (show a < a + 1 by omega), Bool.true_and, pk_uLs]
      by_cases l : b < a
      · exact h1 b l
      · rw [h2 (a * 40 + b) (by omega), y3 a b ha hb', decide_eq_false (show ¬ a < a by omega), Bool.false_and]
        cases z : cs_bl (seen c) b
        · rfl
        · exact absurd ((rM c hc).1 b z) l
    · rw [h2 (a * 40 + b) (by omega), pk_uLn e, y3 a b ha hb', show decide (a < n + 1) = decide (a < n) from decide_eq_decide.mpr (by omega)]
theorem i_vc_write {k : Nat} {u : SX} {v : SY} (I : i_Rel k u v) (hk : k + 4 ≤ 2048) (v1 : Int32) (v2 : Int32) (v3 : Int32) : wpX_write (fun r u' => wpY_write (fun r' v' => r' = r ∧ i_Rel (k + 4) u' v') v v1 v2 v3) u v1 v2 v3 := by
  refine cs_el (Q := fun u v => wpX_write (fun r u' => wpY_write (fun r' v' => r' = r ∧ i_Rel (k + 4) u' v') v v1 v2 v3) u v1 v2 v3) ?_ I
  intro n fc K V S P dep come shown lk best seen sst ch nd yc hs sh R
  have hn : n ≤ 40 := R.2.2.2.2.1
  unfold wpX_write
  dsimp only
  rcases cs_io v1 3 (by omega) with ho | ⟨c, hc, rfl⟩
  · refine xg_cl_o ho ?_
    refine br_f (by decide) ?_
    unfold wpY_write
    dsimp only
    refine yg_three_o ho ?_
    exact br_t rfl ⟨rfl, cs_mk R⟩
  · refine xg_cl_i hc ?_
    refine br_t rfl ?_
    rcases cs_io v2 6 (by omega) with ho | ⟨j, hj, rfl⟩
    · refine xg_key_o ho ?_
      unfold wpY_write
      dsimp only
      refine yg_three_i hc ?_
      refine br_f (by decide) ?_
      refine yg_key_o ho ?_
      exact br_t rfl ⟨rfl, cs_mk R⟩
    · refine xg_key_i hj ?_
      by_cases h40 : n < 40
      · refine br_t (nI_lt (b := 40) h40 (by omega)) ?_
        have R' := R
        obtain ⟨rK, rP, rX, rM, rY⟩ := R
        obtain ⟨y1, y2, y3, y4, y5⟩ := rY
        obtain ⟨p, hp, ep⟩ := rP c hc
        have ecn : (nI n).toNatClampNeg = n := cs_cl (by omega)
        have ecc : (nI c).toNatClampNeg = c := cs_cl (by omega)
        have eP : P (nI c).toNatClampNeg = nI p := by rw [ecc]; exact ep
        have hin : vp_in (nI n) 40 := pk_in n 40 h40
        have hic : vp_in (nI c) 3 := pk_in c 3 hc
        refine And.intro hin (nm_r (e' := upd K n (nI j)) (by rw [ecn]) ?_)
        refine And.intro hin (nm_r (e' := upd V n v3) (by rw [ecn]) ?_)
        refine And.intro hic (And.intro hin (nm_r (e' := upd S n (sst c + 1)) (by rw [ecn, ecc]) ?_))
        refine And.intro hic (And.intro hin (nm_r (e' := vp_updL dep n (seen c)) (by rw [ecn, ecc]) ?_))
        refine nm_r (nI_1 n) (And.intro hic ?_)
        rw [eP]
        have hnc : cs_bl (come p) n = false := by
          cases e : cs_bl (come p) n
          · rfl
          · exact absurd ((rX p hp).1 n e) (by omega)
        have hlt2 : ∀ a b, a < n + 1 → cs_bl (vp_updL dep n (seen c) a) b = true → b < a := by
          intro a b ha hab
          by_cases e : a = n
          · rw [e, pk_uLs] at hab
            rw [e]
            exact (rM c hc).1 b hab
          · rw [pk_uLn e] at hab
            exact y2 a b (by omega) hab
        have hK2 : ∀ w, w < n + 1 → ∃ k, k < 6 ∧ upd K n (nI j) w = nI k := by
          intro w hw
          by_cases e : w = n
          · rw [e, pk_us]; exact ⟨j, hj, rfl⟩
          · rw [pk_un e]; exact rK w (by omega)
        refine xa_arrive (n := n + 1) (c := p) (v := n) (by omega) hp (by omega) hlt2 hK2 (fun d hd => cx_new (rX d hd)) hnc (fun r fc2 come2 shown2 lk2 best2 ch2 hX2 hb ho hr => ?_)
        dsimp only
        refine xs_see hc h40 (fun seen2 sst2 hb2 ho2 ho3 hm => ?_)
        dsimp only
        unfold wpY_write
        dsimp only
        refine yg_three_i hc ?_
        refine br_f (by decide) ?_
        refine yg_key_i hj ?_
        refine br_f (by decide) ?_
        refine br_f (fun z => ?_) (Exists.intro (n + 1) ?_)
        · have e : n = 40 := (nI_eq (a := n) (b := 40) (by omega) (by omega)).mp z
          omega
        · refine ym_write (Hc := cs_bl (seen c)) (nd0 := nd) hc hp ep h40 (fun v hv => y5 c v hc hv) (rM c hc).1 (fun nd2 m h1 h2 hM => ?_) n 0 (by omega) nd 0 (fun b hb => absurd hb (by omega)) (fun _ _ => rfl) ⟨Int32.le_refl _, fun v hv => ?_, Or.inl rfl⟩ (n + 1) (by omega)
          · have em : m = sst c := cm_un hM (rM c hc).2
            subst em
            exact ⟨rfl, cs_mk (cs_Rw R' h40 hc hp hj hX2 hb ho hb2 ho2 ho3 hm h1 h2)⟩
          · have hv : (decide (v < 0) && cs_bl (seen c) v) = true := hv
            rw [decide_eq_false (by omega), Bool.false_and] at hv
            exact absurd hv (by decide)
      · have e : n = 40 := by omega
        subst e
        refine br_f (by decide) ?_
        unfold wpY_write
        dsimp only
        refine yg_three_i hc ?_
        refine br_f (by decide) ?_
        refine yg_key_i hj ?_
        refine br_f (by decide) ?_
        exact br_t rfl ⟨rfl, cs_mk R⟩
end
