section
/-! rows of kit/rows (PURE-ROWS, BITS), pasted -/
theorem pk_us {f : Nat → Int32} {k : Nat} {x : Int32} : upd f k x k = x := if_pos rfl
theorem pk_un {f : Nat → Int32} {k j : Nat} {x : Int32} (h : j ≠ k) : upd f k x j = f j := if_neg h
theorem pk_uLs {f : Nat → Int64} {k : Nat} {x : Int64} : vp_updL f k x k = x := if_pos rfl
theorem pk_uLn {f : Nat → Int64} {k j : Nat} {x : Int64} (h : j ≠ k) : vp_updL f k x j = f j := if_neg h
theorem pk_sub {a b : Nat} (h : b ≤ a) : nI a - nI b = nI (a - b) := by
  obtain ⟨c, rfl⟩ : ∃ c, a = c + b := ⟨a - b, by omega⟩
  rw [← nI_add, Int32.add_sub_cancel, Nat.add_sub_cancel]
theorem pk_m1 (n : Nat) : nI (n + 1) + (-1) = nI n := by
  rw [← nI_1, Int32.add_assoc, show (1 : Int32) + (-1) = 0 from rfl, Int32.add_zero]
theorem pk_mul (a b : Nat) : nI a * nI b = nI (a * b) := (Int32.ofNat_mul a b).symm
theorem pk_ix (x : Int32) {n : Nat} (hn : n < 2 ^ 31) : x < 0 ∨ nI n ≤ x ∨ ∃ j : Nat, j < n ∧ x = nI j := by
  by_cases h : x < 0
  · exact Or.inl h
  · obtain ⟨j, hj, rfl⟩ := nI_of h
    by_cases h2 : j < n
    · exact Or.inr (Or.inr ⟨j, h2, rfl⟩)
    · exact Or.inr (Or.inl (nI_le (by omega) hj))
theorem pk_le {x y : Int32} {A B : Prop} (a b : Nat) (f : a ≤ b → A) (g : b < a → B) (hx : x = nI a := by rfl) (hy : y = nI b := by rfl) (ha : a < 2 ^ 31 := by omega) (hb : b < 2 ^ 31 := by omega) : (x ≤ y → A) ∧ (¬ x ≤ y → B) := by
  subst hx hy
  rw [nI_leI ha hb]
  exact ⟨f, fun z => g (by omega)⟩
theorem pk_lt {x y : Int32} {A B : Prop} (a b : Nat) (f : a < b → A) (g : b ≤ a → B) (hx : x = nI a := by rfl) (hy : y = nI b := by rfl) (ha : a < 2 ^ 31 := by omega) (hb : b < 2 ^ 31 := by omega) : (x < y → A) ∧ (¬ x < y → B) := by
  subst hx hy
  rw [nI_ltI ha hb]
  exact ⟨f, fun z => g (by omega)⟩
theorem pk_eq {x y : Int32} {A B : Prop} (a b : Nat) (f : a = b → A) (g : a ≠ b → B) (hx : x = nI a := by rfl) (hy : y = nI b := by rfl) (ha : a < 2 ^ 31 := by omega) (hb : b < 2 ^ 31 := by omega) : (x = y → A) ∧ (¬ x = y → B) := by
  subst hx hy
  rw [nI_eq ha hb]
  exact ⟨f, g⟩
theorem pk_in {x : Int32} (n N : Nat) (h : n < N) (hx : x = nI n := by rfl) (hN : N < 2 ^ 31 := by omega) : vp_in x N := by
  subst hx
  exact vp_in_nI h hN
theorem pk_cl {x : Int32} (n : Nat) (hx : x = nI n := by rfl) (h : n < 2 ^ 31 := by omega) : x.toNatClampNeg = n := by
  subst hx
  exact nI_clamp h
theorem pk_tn {n : Nat} (h : n < 2 ^ 32) : (nI n).toBitVec.toNat = n := Nat.mod_eq_of_lt h
theorem pk_and (x : Int32) {m : Int32} (k : Nat) (hm : m.toBitVec.toNat = 2 ^ k - 1) : x &&& m = nI (x.toBitVec.toNat % 2 ^ k) := by
  apply Int32.toBitVec_inj.mp
  apply BitVec.eq_of_toNat_eq
  rw [Int32.toBitVec_and, BitVec.toNat_and, hm, Nat.and_two_pow_sub_one_eq_mod]
  show _ = (BitVec.ofNat 32 _).toNat
  rw [BitVec.toNat_ofNat]
  exact (Nat.mod_eq_of_lt (Nat.lt_of_le_of_lt (Nat.mod_le _ _) x.toBitVec.isLt)).symm
theorem pk_andE (x : Int32) {m : Int32} (k : Nat) (hm : m.toBitVec.toNat = 2 ^ k - 1) : ∃ j : Nat, j < 2 ^ k ∧ x &&& m = nI j := ⟨_, Nat.mod_lt _ (Nat.two_pow_pos k), pk_and x k hm⟩
theorem pk_andIn (x : Int32) {m : Int32} (k : Nat) (hm : m.toBitVec.toNat = 2 ^ k - 1) (hk : k ≤ 30) : vp_in (x &&& m) (2 ^ k) := by
  obtain ⟨j, hj, e⟩ := pk_andE x k hm
  rw [e]
  exact vp_in_nI hj (Nat.lt_of_le_of_lt (Nat.pow_le_pow_right (by decide) hk) (by decide))
theorem ts_nf {x : Bool} (h : ¬ x = false) : x = true := by cases x <;> first | rfl | exact absurd rfl h
theorem ts_nt {x : Bool} (h : ¬ x = true) : x = false := by cases x <;> first | rfl | exact absurd rfl h
theorem wb_c : ∀ k, k < 64 → ((nI k).toInt64 &&& 63) = lN k := by decide +kernel
theorem wb_cu : ∀ k, k < 64 → ((nI k).toInt64.toUInt64 &&& Int64.toUInt64 63) = UInt64.ofNat k := by decide +kernel
end
section
/-! bits of a long -/
def rl_bit (w : Int64) (c : Nat) : Bool := w.toBitVec.getLsbD c
def rl_one (c : Nat) : Int64 := (1 : Int64) <<< ((nI c).toInt64 &&& 63)
def rl_b01 (b : Bool) : Int32 := if b = true then 1 else 0
theorem rl_b01t : rl_b01 true = 1 := rfl
theorem rl_b01f : rl_b01 false = 0 := rfl
theorem rl_one_bv : ∀ c, c < 64 → (rl_one c).toBitVec = BitVec.twoPow 64 c := by decide +kernel
theorem rl_bone {c : Nat} (hc : c < 64) (j : Nat) : rl_bit (rl_one c) j = decide (j = c) := by
  unfold rl_bit
  rw [rl_one_bv c hc, BitVec.getLsbD_twoPow]
  by_cases e : j = c
  · subst e; simp [hc]
  · have e' : ¬ c = j := fun z => e z.symm
    simp [e, e']
theorem rl_bor (x y : Int64) (j : Nat) : rl_bit (x ||| y) j = (rl_bit x j || rl_bit y j) := by unfold rl_bit; rw [Int64.toBitVec_or, BitVec.getLsbD_or]
theorem rl_band (x y : Int64) (j : Nat) : rl_bit (x &&& y) j = (rl_bit x j && rl_bit y j) := by unfold rl_bit; rw [Int64.toBitVec_and, BitVec.getLsbD_and]
theorem rl_bnot (x : Int64) {j : Nat} (hj : j < 64) : rl_bit (x ^^^ (-1)) j = !rl_bit x j := by
  have ha : (-1 : Int64).toBitVec = BitVec.allOnes 64 := by decide
  unfold rl_bit
  rw [Int64.toBitVec_xor, BitVec.getLsbD_xor, ha, BitVec.getLsbD_allOnes]
  simp [hj]
theorem rl_ext {x y : Int64} (h : ∀ j, j < 64 → rl_bit x j = rl_bit y j) : x = y := Int64.toBitVec_inj.mp (BitVec.eq_of_getLsbD_eq (fun i hi => h i hi))
theorem rl_b0 (j : Nat) : rl_bit 0 j = false := BitVec.getLsbD_zero
theorem rl_shr (w : Int64) {c : Nat} (hc : c < 64) : (w.toUInt64 >>> ((nI c).toInt64.toUInt64 &&& Int64.toUInt64 63)).toInt64.toBitVec = w.toBitVec >>> c := by
  rw [wb_cu c hc]
  apply BitVec.eq_of_toNat_eq
  show (w.toUInt64 >>> UInt64.ofNat c).toNat = _
  have h1 : (UInt64.ofNat c).toNat = c := by
    show (BitVec.ofNat 64 c).toNat = c
    rw [BitVec.toNat_ofNat, Nat.mod_eq_of_lt (by omega)]
  rw [UInt64.toNat_shiftRight, h1, Nat.mod_eq_of_lt hc, BitVec.toNat_ushiftRight]
  rfl
theorem rl_1b : ∀ i, i < 64 → (1#64).getLsbD i = decide (i = 0) := by decide +kernel
theorem rl_3b : ∀ i, i < 64 → (3#64).getLsbD i = decide (i < 2) := by decide +kernel
theorem rl_isu (w : Int64) {c : Nat} (hc : c < 64) : (((w.toUInt64 >>> ((nI c).toInt64.toUInt64 &&& Int64.toUInt64 63)).toInt64) &&& 1) = 1 ↔ rl_bit w c = true := by
  rw [← Int64.toBitVec_inj, Int64.toBitVec_and, rl_shr w hc]
  show w.toBitVec >>> c &&& 1#64 = 1#64 ↔ _
  unfold rl_bit
  constructor
  · intro h
    have t : (w.toBitVec >>> c &&& 1#64).getLsbD 0 = (1#64).getLsbD 0 := by rw [h]
    rw [BitVec.getLsbD_and, BitVec.getLsbD_ushiftRight, rl_1b 0 (by decide)] at t
    simpa using t
  · intro h
    apply BitVec.eq_of_getLsbD_eq
    intro i hi
    rw [BitVec.getLsbD_and, BitVec.getLsbD_ushiftRight, rl_1b i hi]
    by_cases e : i = 0
    · subst e; simp [h]
    · simp [e]
theorem rl_mad (w : Int64) {c : Nat} (hc : c + 1 < 64) : (((w.toUInt64 >>> ((nI c).toInt64.toUInt64 &&& Int64.toUInt64 63)).toInt64) &&& 3) = 0 ↔ (rl_bit w c = false ∧ rl_bit w (c + 1) = false) := by
  rw [← Int64.toBitVec_inj, Int64.toBitVec_and, rl_shr w (by omega)]
  show w.toBitVec >>> c &&& 3#64 = 0#64 ↔ _
  unfold rl_bit
  constructor
  · intro h
    have t : (w.toBitVec >>> c &&& 3#64).getLsbD 0 = (0#64).getLsbD 0 := by rw [h]
    have t1 : (w.toBitVec >>> c &&& 3#64).getLsbD 1 = (0#64).getLsbD 1 := by rw [h]
    rw [BitVec.getLsbD_and, BitVec.getLsbD_ushiftRight, rl_3b 0 (by decide)] at t
    rw [BitVec.getLsbD_and, BitVec.getLsbD_ushiftRight, rl_3b 1 (by decide)] at t1
    exact ⟨by simpa using t, by simpa using t1⟩
  · intro h
    apply BitVec.eq_of_getLsbD_eq
    intro i hi
    rw [BitVec.getLsbD_and, BitVec.getLsbD_ushiftRight, rl_3b i hi]
    by_cases e : i = 0
    · subst e
      have := h.1
      simp [this]
    · by_cases e1 : i = 1
      · subst e1
        have := h.2
        simp [this]
      · have e2 : ¬ i < 2 := by omega
        simp [e2]
theorem rl_2t (t : Nat) : (2 : Int32) * nI t = nI (2 * t) := pk_mul 2 t
theorem rl_t2 (t : Nat) : nI t * (2 : Int32) = nI (t * 2) := pk_mul t 2
theorem rl_32 (b : Nat) : (32 : Int32) + nI b = nI (32 + b) := nI_add 32 b
theorem rl_bk {b : Bool} (h : ¬ b = true) : b = false := by cases b with | true => exact absurd rfl h | false => rfl
theorem rl_n0 : ¬ (1 : Int32) = 0 := by decide
theorem rl_neg : (-1 : Int32) < 0 := by decide
end
section
/-! the pure state of a branch: unspent, made, amounts, owners; and a block's step -/
abbrev rl_PS : Type := Int64 × Int64 × (Nat → Int32) × (Nat → Int32)
def rl_z : rl_PS := (0, 0, fun _ => 0, fun _ => 0)
def rl_mk (c : Nat) (a o : Int32) (s : rl_PS) : rl_PS := (s.1 ||| rl_one c, s.2.1 ||| rl_one c, upd s.2.2.1 c a, upd s.2.2.2 c o)
def rl_sum (cx cy : Nat → Int32) (A : Nat → Int32) (t : Nat) : Int32 := if cy t < 0 then A (cx t).toNatClampNeg else A (cx t).toNatClampNeg + A (cy t).toNatClampNeg
def rl_gd (cx cy : Nat → Int32) (U : Int64) (t : Nat) : Bool := rl_bit U (cx t).toNatClampNeg && (decide (cy t < 0) || (!decide (cy t = cx t) && rl_bit U (cy t).toNatClampNeg))
def rl_f2 (cx cy pd : Nat → Int32) (s : rl_PS) (t : Nat) : Bool := !rl_bit s.2.1 (2 * t) && !rl_bit s.2.1 (2 * t + 1) && !decide (rl_sum cx cy s.2.2.1 t < pd t)
def rl_fit (cx cy pd : Nat → Int32) (s : rl_PS) (t : Nat) : Bool := rl_gd cx cy s.1 t && rl_f2 cx cy pd s t
def rl_spd (cx cy : Nat → Int32) (U : Int64) (t : Nat) : Int64 := if cy t < 0 then U &&& (rl_one (cx t).toNatClampNeg ^^^ (-1)) else U &&& (rl_one (cx t).toNatClampNeg ^^^ (-1)) &&& (rl_one (cy t).toNatClampNeg ^^^ (-1))
def rl_rest (cx cy pd : Nat → Int32) (s : rl_PS) (t : Nat) : Int32 := rl_sum cx cy s.2.2.1 t - pd t
def rl_sp (cx cy : Nat → Int32) (s : rl_PS) (t : Nat) : rl_PS := (rl_spd cx cy s.1 t, s.2)
def rl_ap0 (cx cy pd sn rc : Nat → Int32) (s : rl_PS) (t : Nat) : rl_PS := rl_mk (2 * t) (pd t) (rc t) (rl_sp cx cy s t)
def rl_app (cx cy pd sn rc : Nat → Int32) (s : rl_PS) (t : Nat) : rl_PS := if rl_rest cx cy pd s t ≤ 0 then rl_ap0 cx cy pd sn rc s t else rl_mk (2 * t + 1) (rl_rest cx cy pd s t) (sn t) (rl_ap0 cx cy pd sn rc s t)
def rl_car (cx cy pd sn rc : Nat → Int32) (s : rl_PS) (t : Int32) : Option rl_PS := if t < 0 then some s else if rl_fit cx cy pd s t.toNatClampNeg = true then some (rl_app cx cy pd sn rc s t.toNatClampNeg) else none
def rl_stp (cx cy pd sn rc mi tx : Nat → Int32) (s : rl_PS) (b : Nat) : Option rl_PS := (rl_car cx cy pd sn rc (rl_mk (32 + b) 50 (mi b) s) (tx (b * 2))).bind fun s1 => rl_car cx cy pd sn rc s1 (tx (b * 2 + 1))
def rl_TW (cx cy : Nat → Int32) (T : Nat) : Prop := T ≤ 16 ∧ ∀ t, t < T → (∃ x, x < 64 ∧ cx t = nI x) ∧ (cy t = -1 ∨ ∃ y, y < 64 ∧ cy t = nI y)
def rl_WF (s : rl_PS) : Prop := (∀ c, c < 64 → rl_bit s.1 c = true → rl_bit s.2.1 c = true) ∧ ∀ t, t < 16 → rl_bit s.2.1 (2 * t + 1) = true → rl_bit s.2.1 (2 * t) = true
def rl_ag (s s' : rl_PS) : Prop := s'.1 = s.1 ∧ s'.2.1 = s.2.1 ∧ ∀ c, c < 64 → rl_bit s.2.1 c = true → s'.2.2.1 c = s.2.2.1 c ∧ s'.2.2.2 c = s.2.2.2 c
def rl_Ext (s s' : rl_PS) : Prop := (∀ c, c < 64 → rl_bit s.2.1 c = true → rl_bit s'.2.1 c = true) ∧ (∀ c, c < 64 → rl_bit s'.1 c = true → rl_bit s.2.1 c = true → rl_bit s.1 c = true) ∧ ∀ c, c < 64 → rl_bit s.2.1 c = true → s'.2.2.1 c = s.2.2.1 c ∧ s'.2.2.2 c = s.2.2.2 c
def rl_oa (o o' : Option rl_PS) : Prop := (o = none ∧ o' = none) ∨ ∃ a a', o = some a ∧ o' = some a' ∧ rl_ag a a'
section
variable {cx cy pd sn rc mi tx : Nat → Int32} {s s' s'' : rl_PS} {T t c : Nat} {a o : Int32}
theorem rl_cx (h : rl_TW cx cy T) (ht : t < T) : (cx t).toNatClampNeg < 64 ∧ cx t = nI (cx t).toNatClampNeg := by
  obtain ⟨⟨x, hx, e⟩, _⟩ := h.2 t ht
  rw [e, nI_clamp (by omega)]
  exact ⟨hx, rfl⟩
theorem rl_cy (h : rl_TW cx cy T) (ht : t < T) : cy t < 0 ∨ (¬ cy t < 0 ∧ (cy t).toNatClampNeg < 64 ∧ cy t = nI (cy t).toNatClampNeg) := by
  obtain ⟨_, e | ⟨y, hy, e⟩⟩ := h.2 t ht
  · rw [e]; exact Or.inl (by decide)
  · rw [e, nI_clamp (by omega)]
    exact Or.inr ⟨nI_pos (by omega), hy, rfl⟩
theorem rl_fit_iff : rl_fit cx cy pd s t = true ↔ (rl_bit s.1 (cx t).toNatClampNeg = true ∧ (cy t < 0 ∨ (¬ cy t = cx t ∧ rl_bit s.1 (cy t).toNatClampNeg = true)) ∧ rl_bit s.2.1 (2 * t) = false ∧ rl_bit s.2.1 (2 * t + 1) = false ∧ ¬ rl_sum cx cy s.2.2.1 t < pd t) := by
  unfold rl_fit rl_gd rl_f2
  simp only [Bool.and_eq_true, Bool.or_eq_true, Bool.not_eq_true', decide_eq_true_eq, decide_eq_false_iff_not, and_assoc]
theorem rl_ag_r : rl_ag s s := ⟨rfl, rfl, fun _ _ _ => ⟨rfl, rfl⟩⟩
theorem rl_ag_s (h : rl_ag s s') : rl_ag s' s := ⟨h.1.symm, h.2.1.symm, fun c hc hb => by
  rw [h.2.1] at hb
  exact ⟨(h.2.2 c hc hb).1.symm, (h.2.2 c hc hb).2.symm⟩⟩
theorem rl_ag_t (h : rl_ag s s') (h' : rl_ag s' s'') : rl_ag s s'' := ⟨h'.1.trans h.1, h'.2.1.trans h.2.1, fun c hc hb => by
  have q := h'.2.2 c hc (by rw [h.2.1]; exact hb)
  have p := h.2.2 c hc hb
  exact ⟨q.1.trans p.1, q.2.trans p.2⟩⟩
theorem rl_ag_wf (h : rl_ag s s') (w : rl_WF s) : rl_WF s' := by
  unfold rl_WF
  rw [h.1, h.2.1]
  exact w
theorem rl_ext_r : rl_Ext s s := ⟨fun _ _ h => h, fun _ _ h _ => h, fun _ _ _ => ⟨rfl, rfl⟩⟩
theorem rl_ext_t (h : rl_Ext s s') (h' : rl_Ext s' s'') : rl_Ext s s'' := ⟨fun c hc hb => h'.1 c hc (h.1 c hc hb), fun c hc hu hb => h.2.1 c hc (h'.2.1 c hc hu (h.1 c hc hb)) hb, fun c hc hb => by
  have q := h'.2.2 c hc (h.1 c hc hb)
  have p := h.2.2 c hc hb
  exact ⟨q.1.trans p.1, q.2.trans p.2⟩⟩
theorem rl_mk_m (hc : c < 64) (j : Nat) : rl_bit (rl_mk c a o s).2.1 j = (rl_bit s.2.1 j || decide (j = c)) := by
  show rl_bit (s.2.1 ||| rl_one c) j = _
  rw [rl_bor, rl_bone hc]
theorem rl_mk_u (hc : c < 64) (j : Nat) : rl_bit (rl_mk c a o s).1 j = (rl_bit s.1 j || decide (j = c)) := by
  show rl_bit (s.1 ||| rl_one c) j = _
  rw [rl_bor, rl_bone hc]
theorem rl_mk_ag (hc : c < 64) (h : rl_ag s s') : rl_ag (rl_mk c a o s) (rl_mk c a o s') := by
  refine ⟨?_, ?_, fun j hj hb => ?_⟩
  · show s'.1 ||| rl_one c = s.1 ||| rl_one c
    rw [h.1]
  · show s'.2.1 ||| rl_one c = s.2.1 ||| rl_one c
    rw [h.2.1]
  · rw [rl_mk_m hc] at hb
    show upd s'.2.2.1 c a j = upd s.2.2.1 c a j ∧ upd s'.2.2.2 c o j = upd s.2.2.2 c o j
    by_cases e : j = c
    · subst e
      exact ⟨by rw [pk_us, pk_us], by rw [pk_us, pk_us]⟩
    · rw [pk_un e, pk_un e, pk_un e, pk_un e]
      exact h.2.2 j hj (by simpa [e] using hb)
theorem rl_mk_wf (hc : c < 64) (ho : ∀ t, t < 16 → c = 2 * t + 1 → rl_bit s.2.1 (2 * t) = true) (h : rl_WF s) : rl_WF (rl_mk c a o s) := by
  refine ⟨fun j hj hb => ?_, fun t ht hb => ?_⟩
  · rw [rl_mk_u hc] at hb
    rw [rl_mk_m hc]
    rw [Bool.or_eq_true] at hb ⊢
    exact hb.imp (h.1 j hj) id
  · rw [rl_mk_m hc] at hb ⊢
    rw [Bool.or_eq_true, decide_eq_true_eq] at hb
    rw [Bool.or_eq_true]
    rcases hb with hb | hb
    · exact Or.inl (h.2 t ht hb)
    · exact Or.inl (ho t ht hb.symm)
theorem rl_mk_ext (hc : c < 64) (hf : rl_bit s.2.1 c = false) : rl_Ext s (rl_mk c a o s) := by
  refine ⟨fun j hj hb => ?_, fun j hj hb hm => ?_, fun j hj hb => ?_⟩
  · rw [rl_mk_m hc, hb, Bool.true_or]
  · rw [rl_mk_u hc, Bool.or_eq_true, decide_eq_true_eq] at hb
    rcases hb with hb | hb
    · exact hb
    · rw [hb, hf] at hm
      exact absurd hm (by decide)
  · have e : j ≠ c := by
      intro e
      rw [e, hf] at hb
      exact absurd hb (by decide)
    exact ⟨pk_un e, pk_un e⟩
theorem rl_spd_b (h : rl_TW cx cy T) (ht : t < T) (U : Int64) {j : Nat} (hj : j < 64) : rl_bit (rl_spd cx cy U t) j = (rl_bit U j && !decide (j = (cx t).toNatClampNeg) && (decide (cy t < 0) || !decide (j = (cy t).toNatClampNeg))) := by
  unfold rl_spd
  rcases rl_cy h ht with c | ⟨c, hy, _⟩
  · rw [if_pos c, rl_band, rl_bnot _ hj, rl_bone (rl_cx h ht).1, decide_eq_true c, Bool.true_or, Bool.and_true]
  · rw [if_neg c, rl_band, rl_band, rl_bnot _ hj, rl_bnot _ hj, rl_bone (rl_cx h ht).1, rl_bone hy, decide_eq_false c, Bool.false_or]
theorem rl_sp_u (h : rl_TW cx cy T) (ht : t < T) {j : Nat} (hj : j < 64) (hb : rl_bit (rl_sp cx cy s t).1 j = true) : rl_bit s.1 j = true := by
  have e : rl_bit (rl_spd cx cy s.1 t) j = true := hb
  rw [rl_spd_b h ht _ hj, Bool.and_eq_true, Bool.and_eq_true] at e
  exact e.1.1
theorem rl_sp_wf (h : rl_TW cx cy T) (ht : t < T) (w : rl_WF s) : rl_WF (rl_sp cx cy s t) := ⟨fun j hj hb => w.1 j hj (rl_sp_u h ht hj hb), w.2⟩
theorem rl_sp_ext (h : rl_TW cx cy T) (ht : t < T) : rl_Ext s (rl_sp cx cy s t) := ⟨fun _ _ h => h, fun j hj hb _ => rl_sp_u h ht hj hb, fun _ _ _ => ⟨rfl, rfl⟩⟩
theorem rl_sp_ag (h : rl_ag s s') : rl_ag (rl_sp cx cy s t) (rl_sp cx cy s' t) := by
  refine ⟨?_, h.2.1, h.2.2⟩
  show rl_spd cx cy s'.1 t = rl_spd cx cy s.1 t
  rw [h.1]
theorem rl_sum_ag (h : rl_TW cx cy T) (ht : t < T) (w : rl_WF s) (hf : rl_fit cx cy pd s t = true) (g : rl_ag s s') : rl_sum cx cy s'.2.2.1 t = rl_sum cx cy s.2.2.1 t := by
  obtain ⟨f1, f2, _⟩ := rl_fit_iff.mp hf
  have ex := (g.2.2 _ (rl_cx h ht).1 (w.1 _ (rl_cx h ht).1 f1)).1
  unfold rl_sum
  rcases rl_cy h ht with c | ⟨c, hy, _⟩
  · rw [if_pos c, if_pos c, ex]
  · rcases f2 with q | ⟨_, q⟩
    · exact absurd q c
    · have ey := (g.2.2 _ hy (w.1 _ hy q)).1
      rw [if_neg c, if_neg c, ex, ey]
theorem rl_fit_ag1 (h : rl_TW cx cy T) (ht : t < T) (w : rl_WF s) (hf : rl_fit cx cy pd s t = true) (g : rl_ag s s') : rl_fit cx cy pd s' t = true := by
  have e := rl_sum_ag h ht w hf g
  rw [rl_fit_iff] at hf ⊢
  rw [e, g.1, g.2.1]
  exact hf
theorem rl_fit_ag (h : rl_TW cx cy T) (ht : t < T) (w : rl_WF s) (g : rl_ag s s') : rl_fit cx cy pd s' t = rl_fit cx cy pd s t := by
  by_cases e : rl_fit cx cy pd s t = true
  · rw [e, rl_fit_ag1 h ht w e g]
  · by_cases e' : rl_fit cx cy pd s' t = true
    · exact absurd (rl_fit_ag1 h ht (rl_ag_wf g w) e' (rl_ag_s g)) e
    · rw [rl_bk e, rl_bk e']
theorem rl_ap0_m (ht : t < 16) (j : Nat) : rl_bit (rl_ap0 cx cy pd sn rc s t).2.1 j = (rl_bit s.2.1 j || decide (j = 2 * t)) := rl_mk_m (s := rl_sp cx cy s t) (by omega) j
theorem rl_app_m2 (ht : t < 16) : rl_bit (rl_app cx cy pd sn rc s t).2.1 (2 * t) = true := by
  unfold rl_app
  by_cases q : rl_rest cx cy pd s t ≤ 0
  · rw [if_pos q, rl_ap0_m ht]
    simp
  · rw [if_neg q, rl_mk_m (by omega), rl_ap0_m ht]
    simp
theorem rl_app_hi (ht : t < 16) {j : Nat} (hj : 32 ≤ j) : rl_bit (rl_app cx cy pd sn rc s t).2.1 j = rl_bit s.2.1 j := by
  have e1 : ¬ j = 2 * t := by omega
  have e2 : ¬ j = 2 * t + 1 := by omega
  unfold rl_app
  by_cases q : rl_rest cx cy pd s t ≤ 0
  · rw [if_pos q, rl_ap0_m ht, decide_eq_false e1, Bool.or_false]
  · rw [if_neg q, rl_mk_m (by omega), rl_ap0_m ht, decide_eq_false e1, decide_eq_false e2, Bool.or_false, Bool.or_false]
theorem rl_app_wf (h : rl_TW cx cy T) (ht : t < T) (w : rl_WF s) : rl_WF (rl_app cx cy pd sn rc s t) := by
  have hT := h.1
  have w0 : rl_WF (rl_ap0 cx cy pd sn rc s t) := rl_mk_wf (by omega) (fun q _ e => by omega) (rl_sp_wf h ht w)
  unfold rl_app
  by_cases q : rl_rest cx cy pd s t ≤ 0
  · rw [if_pos q]; exact w0
  · rw [if_neg q]
    refine rl_mk_wf (by omega) (fun q _ e => ?_) w0
    have e' : q = t := by omega
    rw [rl_ap0_m (by omega), e']
    simp
theorem rl_app_ext (h : rl_TW cx cy T) (ht : t < T) (hf : rl_fit cx cy pd s t = true) : rl_Ext s (rl_app cx cy pd sn rc s t) := by
  have hT := h.1
  obtain ⟨_, _, f3, f4, _⟩ := rl_fit_iff.mp hf
  have w0 : rl_Ext s (rl_ap0 cx cy pd sn rc s t) := rl_ext_t (rl_sp_ext h ht) (rl_mk_ext (by omega) f3)
  unfold rl_app
  by_cases q : rl_rest cx cy pd s t ≤ 0
  · rw [if_pos q]; exact w0
  · rw [if_neg q]
    refine rl_ext_t w0 (rl_mk_ext (by omega) ?_)
    have e1 : ¬ 2 * t + 1 = 2 * t := by omega
    rw [rl_ap0_m (by omega), f4, decide_eq_false e1]
    rfl
theorem rl_app_ag (h : rl_TW cx cy T) (ht : t < T) (w : rl_WF s) (hf : rl_fit cx cy pd s t = true) (g : rl_ag s s') : rl_ag (rl_app cx cy pd sn rc s t) (rl_app cx cy pd sn rc s' t) := by
  have hT := h.1
  have e : rl_rest cx cy pd s' t = rl_rest cx cy pd s t := by
    unfold rl_rest
    rw [rl_sum_ag h ht w hf g]
  have w0 : rl_ag (rl_ap0 cx cy pd sn rc s t) (rl_ap0 cx cy pd sn rc s' t) := rl_mk_ag (by omega) (rl_sp_ag g)
  unfold rl_app
  rw [e]
  by_cases q : rl_rest cx cy pd s t ≤ 0
  · rw [if_pos q, if_pos q]; exact w0
  · rw [if_neg q, if_neg q]
    exact rl_mk_ag (by omega) w0
theorem rl_car_n : rl_car cx cy pd sn rc s (-1) = some s := if_pos (by decide)
theorem rl_car_k {k : Nat} (hk : k < 2 ^ 31) : rl_car cx cy pd sn rc s (nI k) = if rl_fit cx cy pd s k = true then some (rl_app cx cy pd sn rc s k) else none := by
  unfold rl_car
  rw [if_neg (nI_pos hk), nI_clamp hk]
theorem rl_car_p {x : Int32} (h : rl_TW cx cy T) (w : rl_WF s) (hx : x = -1 ∨ ∃ k, k < T ∧ x = nI k) (e : rl_car cx cy pd sn rc s x = some s') : rl_WF s' ∧ rl_Ext s s' ∧ (∀ c, 32 ≤ c → rl_bit s'.2.1 c = rl_bit s.2.1 c) ∧ ∀ k, k < T → x = nI k → rl_bit s.2.1 (2 * k) = false ∧ rl_bit s'.2.1 (2 * k) = true := by
  have hT := h.1
  rcases hx with hx | ⟨k, hk, hx⟩
  · subst hx
    rw [rl_car_n] at e
    cases e
    refine ⟨w, rl_ext_r, fun _ _ => rfl, fun k hk q => ?_⟩
    have z := nI_pos (n := k) (by omega)
    rw [← q] at z
    exact absurd (by decide) z
  · subst hx
    rw [rl_car_k (by omega)] at e
    by_cases f : rl_fit cx cy pd s k = true
    · rw [if_pos f] at e
      cases e
      refine ⟨rl_app_wf h hk w, rl_app_ext h hk f, fun c hc => rl_app_hi (by omega) hc, fun k' hk' q => ?_⟩
      rw [nI_eq (by omega) (by omega)] at q
      subst q
      exact ⟨(rl_fit_iff.mp f).2.2.1, rl_app_m2 (by omega)⟩
    · rw [if_neg f] at e
      cases e
theorem rl_car_ag {x : Int32} (h : rl_TW cx cy T) (w : rl_WF s) (hx : x = -1 ∨ ∃ k, k < T ∧ x = nI k) (g : rl_ag s s') : rl_oa (rl_car cx cy pd sn rc s x) (rl_car cx cy pd sn rc s' x) := by
  have hT := h.1
  rcases hx with hx | ⟨k, hk, hx⟩
  · subst hx
    rw [rl_car_n, rl_car_n]
    exact Or.inr ⟨_, _, rfl, rfl, g⟩
  · subst hx
    rw [rl_car_k (by omega), rl_car_k (by omega), rl_fit_ag h hk w g]
    by_cases f : rl_fit cx cy pd s k = true
    · rw [if_pos f, if_pos f]
      exact Or.inr ⟨_, _, rfl, rfl, rl_app_ag h hk w f g⟩
    · rw [if_neg f, if_neg f]
      exact Or.inl ⟨rfl, rfl⟩
theorem rl_mkb_wf {b : Nat} (hb : b < 32) (w : rl_WF s) : rl_WF (rl_mk (32 + b) a o s) := rl_mk_wf (by omega) (fun t ht e => by omega) w
theorem rl_stp_ag {b : Nat} (hb : b < 32) (h : rl_TW cx cy T) (w : rl_WF s) (h0 : tx (b * 2) = -1 ∨ ∃ k, k < T ∧ tx (b * 2) = nI k) (h1 : tx (b * 2 + 1) = -1 ∨ ∃ k, k < T ∧ tx (b * 2 + 1) = nI k) (g : rl_ag s s') : rl_oa (rl_stp cx cy pd sn rc mi tx s b) (rl_stp cx cy pd sn rc mi tx s' b) := by
  have w0 : rl_WF (rl_mk (32 + b) 50 (mi b) s) := rl_mkb_wf hb w
  have g0 : rl_ag (rl_mk (32 + b) 50 (mi b) s) (rl_mk (32 + b) 50 (mi b) s') := rl_mk_ag (by omega) g
  unfold rl_stp
  rcases rl_car_ag (pd := pd) (sn := sn) (rc := rc) h w0 h0 g0 with ⟨e, e'⟩ | ⟨r, r', e, e', gr⟩
  · rw [e, e']
    exact Or.inl ⟨rfl, rfl⟩
  · rw [e, e']
    exact rl_car_ag h (rl_car_p h w0 h0 e).1 h1 gr
theorem rl_stp_p {b : Nat} (hb : b < 32) (h : rl_TW cx cy T) (w : rl_WF s) (fr : rl_bit s.2.1 (32 + b) = false) (h0 : tx (b * 2) = -1 ∨ ∃ k, k < T ∧ tx (b * 2) = nI k) (h1 : tx (b * 2 + 1) = -1 ∨ ∃ k, k < T ∧ tx (b * 2 + 1) = nI k) (e : rl_stp cx cy pd sn rc mi tx s b = some s') : rl_WF s' ∧ rl_Ext s s' ∧ (∀ c, 32 + b < c → rl_bit s'.2.1 c = rl_bit s.2.1 c) ∧ ∀ k, k < T → (tx (b * 2) = nI k ∨ tx (b * 2 + 1) = nI k) → rl_bit s.2.1 (2 * k) = false ∧ rl_bit s'.2.1 (2 * k) = true := by
  have hT := h.1
  have w0 : rl_WF (rl_mk (32 + b) 50 (mi b) s) := rl_mkb_wf hb w
  have x0 : rl_Ext s (rl_mk (32 + b) 50 (mi b) s) := rl_mk_ext (by omega) fr
  unfold rl_stp at e
  cases e0 : rl_car cx cy pd sn rc (rl_mk (32 + b) 50 (mi b) s) (tx (b * 2)) with
  | none =>
    rw [e0] at e
    cases e
  | some s1 =>
    rw [e0] at e
    have e1 : rl_car cx cy pd sn rc s1 (tx (b * 2 + 1)) = some s' := e
    obtain ⟨w1, x1, k1, u1⟩ := rl_car_p h w0 h0 e0
    obtain ⟨w2, x2, k2, u2⟩ := rl_car_p h w1 h1 e1
    refine ⟨w2, rl_ext_t x0 (rl_ext_t x1 x2), fun c hc => ?_, fun k hk q => ?_⟩
    · have e' : ¬ c = 32 + b := by omega
      rw [k2 c (by omega), k1 c (by omega), rl_mk_m (by omega), decide_eq_false e', Bool.or_false]
    · have e' : ¬ 2 * k = 32 + b := by omega
      have m0 : rl_bit (rl_mk (32 + b) 50 (mi b) s).2.1 (2 * k) = rl_bit s.2.1 (2 * k) := by rw [rl_mk_m (by omega), decide_eq_false e', Bool.or_false]
      rcases q with q | q
      · obtain ⟨p1, p2⟩ := u1 k hk q
        exact ⟨by rw [← m0]; exact p1, x2.1 _ (by omega) p2⟩
      · obtain ⟨p1, p2⟩ := u2 k hk q
        refine ⟨rl_bk fun z => ?_, p2⟩
        rw [← m0] at z
        rw [x1.1 _ (by omega) z] at p1
        cases p1
end
end
section
/-! ancestry, heights, the ghost states of the blocks -/
def rl_BW (tx : Nat → Int32) (T B : Nat) : Prop := ∀ i, i < 2 * B → tx i = -1 ∨ ∃ k, k < T ∧ tx i = nI k
def rl_PW (par : Nat → Nat) : Prop := par 0 = 0 ∧ ∀ i, 0 < i → par i < i
def rl_GW (B : Nat) (par : Nat → Nat) (G : Nat → Option rl_PS) (cx cy pd sn rc mi tx : Nat → Int32) : Prop := (∃ g, G 0 = some g) ∧ G 0 = rl_stp cx cy pd sn rc mi tx rl_z 0 ∧ ∀ i, 0 < i → i < B → G i = (G (par i)).bind (fun s => rl_stp cx cy pd sn rc mi tx s i)
def rl_EN (T B : Nat) (par : Nat → Nat) (G : Nat → Option rl_PS) (cx cy pd sn rc mi tx : Nat → Int32) : Prop := (1 ≤ B ∧ B ≤ 21) ∧ rl_TW cx cy T ∧ rl_BW tx T B ∧ rl_PW par ∧ rl_GW B par G cx cy pd sn rc mi tx
def rl_anF (par : Nat → Nat) : Nat → Nat → Nat → Bool
  | 0, _, _ => false
  | n + 1, a, b => decide (b = a) || rl_anF par n a (par b)
def rl_an (par : Nat → Nat) (a b : Nat) : Bool := rl_anF par (b + 1) a b
def rl_lst (par : Nat → Nat) (t : Nat) : Nat → Nat
  | 0 => 0
  | j + 1 => if rl_an par j t = true then j else rl_lst par t j
def rl_HW (B : Nat) (par H : Nat → Nat) : Prop := H 0 = 1 ∧ ∀ i, 0 < i → i < B → H i = H (par i) + 1
def rl_nbF (par : Nat → Nat) (ba : Nat → Int32) : Nat → Nat → Bool
  | 0, _ => true
  | n + 1, b => decide (ba b = 0) && (decide (b = 0) || rl_nbF par ba n (par b))
def rl_V (par : Nat → Nat) (ba : Nat → Int32) (G : Nat → Option rl_PS) (b : Nat) : Bool := (G b).isSome && rl_nbF par ba 21 b
theorem rl_z_wf : rl_WF rl_z := by
  refine ⟨fun c _ h => ?_, fun t _ h => ?_⟩
  · rw [show rl_bit rl_z.1 c = false from rl_b0 c] at h
    cases h
  · rw [show rl_bit rl_z.2.1 (2 * t + 1) = false from rl_b0 _] at h
    cases h
section
variable {par H : Nat → Nat} {a b c j n t : Nat}
theorem rl_anF0 (P : rl_PW par) (a : Nat) : ∀ n, rl_anF par (n + 1) a 0 = decide (0 = a) := by
  intro n
  induction n with
  | zero => exact Bool.or_false _
  | succ n ih =>
    show (decide (0 = a) || rl_anF par (n + 1) a (par 0)) = decide (0 = a)
    rw [P.1, ih, Bool.or_self]
theorem rl_anF_st (P : rl_PW par) (a : Nat) : ∀ b n, b < n → rl_anF par n a b = rl_an par a b := by
  intro b
  induction b using Nat.strongRecOn with
  | _ b ih =>
    intro n hn
    obtain ⟨m, rfl⟩ : ∃ m, n = m + 1 := ⟨n - 1, by omega⟩
    by_cases z : b = 0
    · subst z
      rw [rl_anF0 P]
      exact (rl_anF0 P a 0).symm
    · have hp := P.2 b (by omega)
      show (decide (b = a) || rl_anF par m a (par b)) = (decide (b = a) || rl_anF par b a (par b))
      rw [ih (par b) hp m (by omega), ih (par b) hp b hp]
theorem rl_an_0 (P : rl_PW par) : rl_an par a 0 = decide (0 = a) := rl_anF0 P a 0
theorem rl_an_s (P : rl_PW par) (hb : 0 < b) : rl_an par a b = (decide (b = a) || rl_an par a (par b)) := by
  show (decide (b = a) || rl_anF par b a (par b)) = _
  rw [rl_anF_st P a (par b) b (P.2 b hb)]
theorem rl_an_i (P : rl_PW par) (hb : 0 < b) : rl_an par a b = true ↔ (b = a ∨ rl_an par a (par b) = true) := by
  rw [rl_an_s P hb, Bool.or_eq_true, decide_eq_true_eq]
theorem rl_an_self : rl_an par b b = true := by
  show (decide (b = b) || rl_anF par b b (par b)) = true
  rw [decide_eq_true rfl, Bool.true_or]
theorem rl_an_le (P : rl_PW par) : ∀ b, rl_an par a b = true → a ≤ b := by
  intro b
  induction b using Nat.strongRecOn with
  | _ b ih =>
    intro h
    by_cases z : b = 0
    · subst z
      rw [rl_an_0 P, decide_eq_true_eq] at h
      omega
    · have hp := P.2 b (by omega)
      rcases (rl_an_i P (by omega)).mp h with e | e
      · omega
      · have := ih (par b) hp e
        omega
theorem rl_an_t (P : rl_PW par) : ∀ c, rl_an par a b = true → rl_an par b c = true → rl_an par a c = true := by
  intro c
  induction c using Nat.strongRecOn with
  | _ c ih =>
    intro h g
    by_cases z : c = 0
    · subst z
      rw [rl_an_0 P, decide_eq_true_eq] at g
      subst g
      exact h
    · have hp := P.2 c (by omega)
      rcases (rl_an_i P (by omega)).mp g with e | e
      · subst e; exact h
      · exact (rl_an_i P (by omega)).mpr (Or.inr (ih (par c) hp h e))
theorem rl_an_p1 (P : rl_PW par) : rl_an par (par b) b = true := by
  by_cases z : b = 0
  · subst z
    rw [P.1]
    exact rl_an_self
  · exact (rl_an_i P (by omega)).mpr (Or.inr rl_an_self)
theorem rl_an_par (P : rl_PW par) (h : rl_an par j t = true) : rl_an par (par j) t = true := rl_an_t P t (rl_an_p1 P) h
theorem rl_an_z (P : rl_PW par) : ∀ b, rl_an par 0 b = true := by
  intro b
  induction b using Nat.strongRecOn with
  | _ b ih =>
    by_cases z : b = 0
    · subst z
      exact rl_an_self
    · exact (rl_an_i P (by omega)).mpr (Or.inr (ih (par b) (P.2 b (by omega))))
theorem rl_an_mid (P : rl_PW par) : ∀ t, rl_an par a t = true → rl_an par j t = true → a < j → rl_an par a (par j) = true := by
  intro t
  induction t using Nat.strongRecOn with
  | _ t ih =>
    intro h g l
    by_cases z : t = 0
    · subst z
      rw [rl_an_0 P, decide_eq_true_eq] at g
      omega
    · rcases (rl_an_i P (by omega)).mp g with e | e
      · subst e
        rcases (rl_an_i P (by omega)).mp h with q | q
        · omega
        · exact q
      · have hj := rl_an_le P _ e
        have hp := P.2 t (by omega)
        rcases (rl_an_i P (by omega)).mp h with q | q
        · omega
        · exact ih (par t) hp q e l
theorem rl_lst_p (P : rl_PW par) (t : Nat) : ∀ j, 0 < j → rl_lst par t j < j ∧ rl_an par (rl_lst par t j) t = true ∧ ∀ x, rl_lst par t j < x → x < j → rl_an par x t = false := by
  intro j
  induction j with
  | zero => intro h; omega
  | succ j ih =>
    intro _
    by_cases q : rl_an par j t = true
    · have e : rl_lst par t (j + 1) = j := if_pos q
      rw [e]
      exact ⟨by omega, q, fun x _ _ => by omega⟩
    · have e : rl_lst par t (j + 1) = rl_lst par t j := if_neg q
      have hj : 0 < j := by
        rcases Nat.eq_zero_or_pos j with z | z
        · subst z; exact absurd (rl_an_z P t) q
        · exact z
      obtain ⟨i1, i2, i3⟩ := ih hj
      rw [e]
      refine ⟨by omega, i2, fun x h1 h2 => ?_⟩
      by_cases z : x = j
      · subst z; exact rl_bk q
      · exact i3 x h1 (by omega)
theorem rl_lst_par (P : rl_PW par) (hj : 0 < j) (h : rl_an par j t = true) : rl_lst par t j = par j := by
  obtain ⟨i1, i2, i3⟩ := rl_lst_p P t j hj
  have l1 := rl_an_le P _ (rl_an_mid P t i2 h i1)
  have hp := P.2 j hj
  rcases Nat.lt_or_ge (rl_lst par t j) (par j) with q | q
  · have := i3 (par j) q hp
    rw [rl_an_par P h] at this
    cases this
  · omega
theorem rl_lst_y (h : rl_an par j t = true) : rl_lst par t (j + 1) = j := if_pos h
theorem rl_lst_n (h : ¬ rl_an par j t = true) : rl_lst par t (j + 1) = rl_lst par t j := if_neg h
theorem rl_lst_e (P : rl_PW par) (t : Nat) : ∀ j, t < j → rl_lst par t j = t := by
  intro j
  induction j with
  | zero => intro h; omega
  | succ j ih =>
    intro h
    by_cases e : j = t
    · subst e; exact if_pos rl_an_self
    · have q : ¬ rl_an par j t = true := fun q => by
        have := rl_an_le P _ q
        omega
      rw [rl_lst_n q]
      exact ih (by omega)
theorem rl_H_le {B : Nat} (P : rl_PW par) (h : rl_HW B par H) : ∀ b, b < B → 1 ≤ H b ∧ H b ≤ b + 1 := by
  intro b
  induction b using Nat.strongRecOn with
  | _ b ih =>
    intro hb
    by_cases z : b = 0
    · subst z
      rw [h.1]
      omega
    · have hp := P.2 b (by omega)
      have q := ih (par b) hp (by omega)
      rw [h.2 b (by omega) hb]
      omega
theorem rl_H_2 {B : Nat} (P : rl_PW par) (h : rl_HW B par H) (h0 : 0 < b) (hb : b < B) : 2 ≤ H b := by
  have hp := P.2 b h0
  have q := rl_H_le P h (par b) (by omega)
  rw [h.2 b h0 hb]
  omega
theorem rl_H_an {B : Nat} (P : rl_PW par) (h : rl_HW B par H) : ∀ b, b < B → rl_an par a b = true → a = b ∨ H a < H b := by
  intro b
  induction b using Nat.strongRecOn with
  | _ b ih =>
    intro hb q
    by_cases z : b = 0
    · subst z
      rw [rl_an_0 P, decide_eq_true_eq] at q
      exact Or.inl q.symm
    · have hp := P.2 b (by omega)
      have e := h.2 b (by omega) hb
      rcases (rl_an_i P (by omega)).mp q with r | r
      · exact Or.inl r.symm
      · rcases ih (par b) hp (by omega) r with u | u
        · subst u; omega
        · omega
theorem rl_nb_iff {ba : Nat → Int32} (P : rl_PW par) : ∀ b n, b < n → (rl_nbF par ba n b = true ↔ ∀ a, rl_an par a b = true → ba a = 0) := by
  intro b
  induction b using Nat.strongRecOn with
  | _ b ih =>
    intro n hn
    obtain ⟨m, rfl⟩ : ∃ m, n = m + 1 := ⟨n - 1, by omega⟩
    have e : rl_nbF par ba (m + 1) b = (decide (ba b = 0) && (decide (b = 0) || rl_nbF par ba m (par b))) := rfl
    rw [e, Bool.and_eq_true, Bool.or_eq_true, decide_eq_true_eq, decide_eq_true_eq]
    by_cases z : b = 0
    · subst z
      constructor
      · intro h a q
        rw [rl_an_0 P, decide_eq_true_eq] at q
        rw [← q]
        exact h.1
      · intro h
        exact ⟨h 0 rl_an_self, Or.inl rfl⟩
    · have hp := P.2 b (by omega)
      rw [ih (par b) hp m (by omega)]
      constructor
      · intro h a q
        rcases (rl_an_i P (by omega)).mp q with r | r
        · rw [← r]; exact h.1
        · exact (h.2.resolve_left z) a r
      · intro h
        exact ⟨h b rl_an_self, Or.inr fun a q => h a ((rl_an_i P (by omega)).mpr (Or.inr q))⟩
theorem rl_V_iff {ba : Nat → Int32} {G : Nat → Option rl_PS} (P : rl_PW par) (hb : b < 21) : rl_V par ba G b = true ↔ ((∃ g, G b = some g) ∧ ∀ a, rl_an par a b = true → ba a = 0) := by
  unfold rl_V
  rw [Bool.and_eq_true, rl_nb_iff P b 21 hb, Option.isSome_iff_exists]
end
section
variable {par H : Nat → Nat} {G : Nat → Option rl_PS} {T B b a : Nat} {cx cy pd sn rc mi tx : Nat → Int32} {g gp : rl_PS}
theorem rl_tx0 (E : rl_EN T B par G cx cy pd sn rc mi tx) (hb : b < B) : tx (b * 2) = -1 ∨ ∃ k, k < T ∧ tx (b * 2) = nI k := E.2.2.1 _ (by omega)
theorem rl_tx1 (E : rl_EN T B par G cx cy pd sn rc mi tx) (hb : b < B) : tx (b * 2 + 1) = -1 ∨ ∃ k, k < T ∧ tx (b * 2 + 1) = nI k := E.2.2.1 _ (by omega)
theorem rl_G_up (E : rl_EN T B par G cx cy pd sn rc mi tx) (h0 : 0 < b) (hb : b < B) (e : G b = some g) : ∃ gp, G (par b) = some gp ∧ rl_stp cx cy pd sn rc mi tx gp b = some g := by
  rw [E.2.2.2.2.2.2 b h0 hb] at e
  cases ep : G (par b) with
  | none =>
    rw [ep] at e
    cases e
  | some gp =>
    rw [ep] at e
    exact ⟨gp, rfl, e⟩
theorem rl_G_dn (E : rl_EN T B par G cx cy pd sn rc mi tx) (h0 : 0 < b) (hb : b < B) (e : G (par b) = some gp) : G b = rl_stp cx cy pd sn rc mi tx gp b := by
  rw [E.2.2.2.2.2.2 b h0 hb, e]
  rfl
theorem rl_G_p (E : rl_EN T B par G cx cy pd sn rc mi tx) : ∀ b, b < B → ∀ g, G b = some g → rl_WF g ∧ (∀ c, 32 + b < c → rl_bit g.2.1 c = false) ∧ ∀ k, k < T → (tx (b * 2) = nI k ∨ tx (b * 2 + 1) = nI k) → rl_bit g.2.1 (2 * k) = true := by
  have hB := E.1
  intro b
  induction b using Nat.strongRecOn with
  | _ b ih =>
    intro hb g e
    by_cases z : b = 0
    · subst z
      have e' : rl_stp cx cy pd sn rc mi tx rl_z 0 = some g := by rw [← E.2.2.2.2.2.1]; exact e
      obtain ⟨w, _, k, u⟩ := rl_stp_p (by decide) E.2.1 rl_z_wf (rl_b0 _) (rl_tx0 E hb) (rl_tx1 E hb) e'
      exact ⟨w, fun c hc => by rw [k c hc]; exact rl_b0 c, fun k hk q => (u k hk q).2⟩
    · have hp := E.2.2.2.1.2 b (by omega)
      obtain ⟨gp, ep, e'⟩ := rl_G_up E (by omega) hb e
      obtain ⟨wp, kp, _⟩ := ih (par b) hp (by omega) gp ep
      obtain ⟨w, _, k, u⟩ := rl_stp_p (by omega) E.2.1 wp (kp _ (by omega)) (rl_tx0 E hb) (rl_tx1 E hb) e'
      exact ⟨w, fun c hc => by rw [k c hc]; exact kp c (by omega), fun k hk q => (u k hk q).2⟩
theorem rl_G_fr (E : rl_EN T B par G cx cy pd sn rc mi tx) (h0 : 0 < b) (hb : b < B) (ep : G (par b) = some gp) : rl_WF gp ∧ rl_bit gp.2.1 (32 + b) = false := by
  have hp := E.2.2.2.1.2 b h0
  obtain ⟨w, k, _⟩ := rl_G_p E (par b) (by omega) gp ep
  exact ⟨w, k _ (by omega)⟩
theorem rl_G_st (E : rl_EN T B par G cx cy pd sn rc mi tx) (h0 : 0 < b) (hb : b < B) (ep : G (par b) = some gp) (e : G b = some g) : rl_Ext gp g ∧ ∀ k, k < T → (tx (b * 2) = nI k ∨ tx (b * 2 + 1) = nI k) → rl_bit gp.2.1 (2 * k) = false := by
  have hB := E.1
  rw [rl_G_dn E h0 hb ep] at e
  obtain ⟨w, fr⟩ := rl_G_fr E h0 hb ep
  obtain ⟨_, x, _, u⟩ := rl_stp_p (by omega) E.2.1 w fr (rl_tx0 E hb) (rl_tx1 E hb) e
  exact ⟨x, fun k hk q => (u k hk q).1⟩
theorem rl_G_an (E : rl_EN T B par G cx cy pd sn rc mi tx) : ∀ b, b < B → rl_an par a b = true → ∀ g, G b = some g → ∃ ga, G a = some ga ∧ ∀ c, c < 64 → rl_bit ga.2.1 c = true → rl_bit g.2.1 c = true := by
  have P := E.2.2.2.1
  intro b
  induction b using Nat.strongRecOn with
  | _ b ih =>
    intro hb q g e
    by_cases z : b = 0
    · subst z
      rw [rl_an_0 P, decide_eq_true_eq] at q
      subst q
      exact ⟨g, e, fun _ _ h => h⟩
    · rcases (rl_an_i P (by omega)).mp q with r | r
      · subst r
        exact ⟨g, e, fun _ _ h => h⟩
      · have hp := P.2 b (by omega)
        obtain ⟨gp, ep, _⟩ := rl_G_up E (by omega) hb e
        obtain ⟨ga, ea, ha⟩ := ih (par b) hp (by omega) r gp ep
        have x := (rl_G_st E (by omega) hb ep e).1
        exact ⟨ga, ea, fun c hc h => x.1 c hc (ha c hc h)⟩
theorem rl_uniq (E : rl_EN T B par G cx cy pd sn rc mi tx) (h0 : 0 < b) (hb : b < B) (e : G b = some g) {k : Nat} (hk : k < T) (hh : tx (b * 2) = nI k ∨ tx (b * 2 + 1) = nI k) (q : rl_an par a (par b) = true) : ¬ (tx (a * 2) = nI k ∨ tx (a * 2 + 1) = nI k) := by
  intro z
  have P := E.2.2.2.1
  have hT := E.2.1.1
  have hp := P.2 b h0
  have ha := rl_an_le P _ q
  obtain ⟨gp, ep, _⟩ := rl_G_up E h0 hb e
  obtain ⟨ga, ea, m⟩ := rl_G_an E (par b) (by omega) q gp ep
  have b1 := (rl_G_p E a (by omega) ga ea).2.2 k hk z
  have b2 := m _ (by omega) b1
  rw [(rl_G_st E h0 hb ep e).2 k hk hh] at b2
  cases b2
/-- undoing a block by its notes -/
theorem rl_undo (w : rl_WF g) (x : rl_Ext gp g) : (g.1 &&& ((g.2.1 &&& (gp.2.1 ^^^ (-1))) ^^^ (-1))) ||| (gp.1 &&& (g.1 ^^^ (-1))) = gp.1 ∨ ¬ rl_WF gp := by
  by_cases wp : rl_WF gp
  · refine Or.inl (rl_ext fun j hj => ?_)
    rw [rl_bor, rl_band, rl_band, rl_bnot _ hj, rl_bnot _ hj, rl_band, rl_bnot _ hj]
    have a1 := w.1 j hj
    have a2 := x.1 j hj
    have a3 := x.2.1 j hj
    have a4 := wp.1 j hj
    generalize rl_bit g.1 j = p at *
    generalize rl_bit g.2.1 j = q at *
    generalize rl_bit gp.1 j = r at *
    generalize rl_bit gp.2.1 j = u at *
    cases p <;> cases q <;> cases r <;> cases u <;> simp_all
  · exact Or.inr wp
theorem rl_undo_m (x : rl_Ext gp g) : g.2.1 &&& ((g.2.1 &&& (gp.2.1 ^^^ (-1))) ^^^ (-1)) = gp.2.1 := by
  refine rl_ext fun j hj => ?_
  rw [rl_band, rl_bnot _ hj, rl_band, rl_bnot _ hj]
  have a2 := x.1 j hj
  generalize rl_bit g.2.1 j = q at *
  generalize rl_bit gp.2.1 j = u at *
  cases q <;> cases u <;> simp_all
end
end
section
/-! X's walks: coins, a transaction, connecting a block -/
section
variable {tn bn tp ap : Int32} {cx cy pd sn rc pa hg mi tx wk co ba : Nat → Int32} {sp mn : Nat → Int64} {wy : Nat → Int32} {s : rl_PS} {T t b c : Nat}
theorem rl_xmk {post : SX → Prop} {a o : Int32} (hc : c < 64) (h : post (tn, bn, tp, ap, (rl_mk c a o s).1, (rl_mk c a o s).2.1, cx, cy, pd, sn, rc, pa, hg, mi, tx, wk, co, ba, (rl_mk c a o s).2.2.1, (rl_mk c a o s).2.2.2, sp, mn, wy)) : wpX_makeCoin post (tn, bn, tp, ap, s.1, s.2.1, cx, cy, pd, sn, rc, pa, hg, mi, tx, wk, co, ba, s.2.2.1, s.2.2.2, sp, mn, wy) (nI c) a o := by
  have hi : vp_in (nI c) 64 := vp_in_nI hc (by decide)
  have e : (nI c).toNatClampNeg = c := nI_clamp (by omega)
  unfold wpX_makeCoin
  dsimp only
  rw [e]
  exact nm_e (nm_e ⟨hi, nm_e ⟨hi, nm_e h⟩⟩)
theorem rl_xun {post : Int32 → Prop} {x : Int32} (ex : x = nI c) (hc : c < 64) (h : post (rl_b01 (rl_bit s.1 c))) : wpX_isUnspent post (tn, bn, tp, ap, s.1, s.2.1, cx, cy, pd, sn, rc, pa, hg, mi, tx, wk, co, ba, s.2.2.1, s.2.2.2, sp, mn, wy) x := by
  subst ex
  unfold wpX_isUnspent
  dsimp only
  by_cases q : rl_bit s.1 c = true
  · rw [q] at h
    exact br_t ((rl_isu _ hc).mpr q) h
  · rw [rl_bk q] at h
    exact br_f (fun z => q ((rl_isu _ hc).mp z)) h
theorem rl_xsum {post : Int32 → Prop} (h : rl_TW cx cy T) (ht : t < T) (hp : post (rl_sum cx cy s.2.2.1 t)) : wpX_inputSum post (tn, bn, tp, ap, s.1, s.2.1, cx, cy, pd, sn, rc, pa, hg, mi, tx, wk, co, ba, s.2.2.1, s.2.2.2, sp, mn, wy) (nI t) := by
  have hT := h.1
  have hi : vp_in (nI t) 16 := vp_in_nI (by omega) (by decide)
  have e : (nI t).toNatClampNeg = t := nI_clamp (by omega)
  obtain ⟨hx, ex⟩ := rl_cx h ht
  have ix : vp_in (cx t) 64 := by rw [ex]; exact vp_in_nI hx (by decide)
  unfold wpX_inputSum
  dsimp only
  rw [e]
  unfold rl_sum at hp
  rcases rl_cy h ht with c | ⟨c, hy, ey⟩
  · rw [if_pos c] at hp
    exact ⟨hi, br_f (fun z => absurd c (Int32.not_lt.mpr z)) ⟨hi, ix, hp⟩⟩
  · rw [if_neg c] at hp
    have iy : vp_in (cy t) 64 := by rw [ey]; exact vp_in_nI hy (by decide)
    exact ⟨hi, br_t (Int32.not_lt.mp c) ⟨hi, ix, hi, iy, hp⟩⟩
theorem rl_x58 {post : Int32 → Prop} (h : rl_TW cx cy T) (ht : t < T) {g : Bool} (hp : post (rl_b01 (g && rl_f2 cx cy pd s t))) : wX_fitsHere_58 post (nI t) (rl_b01 g) tn bn tp ap s.1 s.2.1 cx cy pd sn rc pa hg mi tx wk co ba s.2.2.1 s.2.2.2 sp mn wy := by
  have hT := h.1
  have hi : vp_in (nI t) 16 := vp_in_nI (by omega) (by decide)
  have e : (nI t).toNatClampNeg = t := nI_clamp (by omega)
  unfold wX_fitsHere_58
  cases g with
  | false => exact br_t rfl hp
  | true =>
    refine br_f (by decide) ?_
    have hp' : post (rl_b01 (rl_f2 cx cy pd s t)) := hp
    unfold rl_f2 at hp'
    rw [rl_2t, e]
    by_cases q : rl_bit s.2.1 (2 * t) = false ∧ rl_bit s.2.1 (2 * t + 1) = false
    · refine br_t ((rl_mad _ (by omega)).mpr q) ?_
      rw [q.1, q.2] at hp'
      refine rl_xsum h ht ⟨hi, ?_⟩
      by_cases u : rl_sum cx cy s.2.2.1 t < pd t
      · rw [decide_eq_true u] at hp'
        exact br_t u hp'
      · rw [decide_eq_false u] at hp'
        exact br_f u hp'
    · refine br_f (fun z => q ((rl_mad _ (by omega)).mp z)) ?_
      have f : (!rl_bit s.2.1 (2 * t) && !rl_bit s.2.1 (2 * t + 1) && !decide (rl_sum cx cy s.2.2.1 t < pd t)) = false := by
        cases e1 : rl_bit s.2.1 (2 * t) with
        | true => rfl
        | false =>
          cases e2 : rl_bit s.2.1 (2 * t + 1) with
          | true => rfl
          | false => exact absurd ⟨e1, e2⟩ q
      rw [f] at hp'
      exact hp'
theorem rl_xfit {post : Int32 → Prop} (h : rl_TW cx cy T) (ht : t < T) (hp : post (rl_b01 (rl_fit cx cy pd s t))) : wpX_fitsHere post (tn, bn, tp, ap, s.1, s.2.1, cx, cy, pd, sn, rc, pa, hg, mi, tx, wk, co, ba, s.2.2.1, s.2.2.2, sp, mn, wy) (nI t) := by
  have hT := h.1
  have hi : vp_in (nI t) 16 := vp_in_nI (by omega) (by decide)
  have e : (nI t).toNatClampNeg = t := nI_clamp (by omega)
  obtain ⟨hx, ex⟩ := rl_cx h ht
  unfold rl_fit at hp
  unfold wpX_fitsHere
  dsimp only
  rw [e]
  refine ⟨hi, rl_xun ex hx ?_⟩
  by_cases qx : rl_bit s.1 (cx t).toNatClampNeg = true
  · rw [qx]
    refine br_f (by decide) ⟨hi, ?_⟩
    rcases rl_cy h ht with c | ⟨c, hy, ey⟩
    · have hg : rl_gd cx cy s.1 t = true := by
        unfold rl_gd
        rw [qx, decide_eq_true c]
        rfl
      rw [hg] at hp
      exact br_t c (rl_x58 h ht hp)
    · refine br_f c ⟨hi, hi, ?_⟩
      by_cases u : cy t = cx t
      · have hg : rl_gd cx cy s.1 t = false := by
          unfold rl_gd
          rw [qx, decide_eq_false c, decide_eq_true u]
          rfl
        rw [hg] at hp
        refine br_t u ?_
        unfold wX_fitsHere_56 wX_fitsHere_57
        exact rl_x58 (g := false) h ht hp
      · refine br_f u ⟨hi, rl_xun ey hy ?_⟩
        by_cases qy : rl_bit s.1 (cy t).toNatClampNeg = true
        · have hg : rl_gd cx cy s.1 t = true := by
            unfold rl_gd
            rw [qx, decide_eq_false c, decide_eq_false u, qy]
            rfl
          rw [hg] at hp
          rw [qy]
          refine br_f (by decide) ?_
          unfold wX_fitsHere_57
          exact rl_x58 (g := true) h ht hp
        · have hg : rl_gd cx cy s.1 t = false := by
            unfold rl_gd
            rw [qx, decide_eq_false c, decide_eq_false u, rl_bk qy]
            rfl
          rw [hg] at hp
          rw [rl_bk qy]
          refine br_t rfl ?_
          unfold wX_fitsHere_56 wX_fitsHere_57
          exact rl_x58 (g := false) h ht hp
  · have hg : rl_gd cx cy s.1 t = false := by
      unfold rl_gd
      rw [rl_bk qx]
      rfl
    rw [hg] at hp
    rw [rl_bk qx]
    exact br_t rfl (rl_x58 (g := false) h ht hp)
theorem rl_x64 {post : SX → Prop} (ht : t < 16) {z : Int32} (hp : post (tn, bn, tp, ap, (if z ≤ 0 then rl_mk (2 * t) (pd t) (rc t) s else rl_mk (2 * t + 1) z (sn t) (rl_mk (2 * t) (pd t) (rc t) s)).1, (if z ≤ 0 then rl_mk (2 * t) (pd t) (rc t) s else rl_mk (2 * t + 1) z (sn t) (rl_mk (2 * t) (pd t) (rc t) s)).2.1, cx, cy, pd, sn, rc, pa, hg, mi, tx, wk, co, ba, (if z ≤ 0 then rl_mk (2 * t) (pd t) (rc t) s else rl_mk (2 * t + 1) z (sn t) (rl_mk (2 * t) (pd t) (rc t) s)).2.2.1, (if z ≤ 0 then rl_mk (2 * t) (pd t) (rc t) s else rl_mk (2 * t + 1) z (sn t) (rl_mk (2 * t) (pd t) (rc t) s)).2.2.2, sp, mn, wy)) : wX_apply_64 post (nI t) z tn bn tp ap s.1 s.2.1 cx cy pd sn rc pa hg mi tx wk co ba s.2.2.1 s.2.2.2 sp mn wy := by
  have hi : vp_in (nI t) 16 := vp_in_nI (by omega) (by decide)
  have e : (nI t).toNatClampNeg = t := nI_clamp (by omega)
  unfold wX_apply_64
  rw [e, rl_2t, nI_1]
  refine ⟨hi, hi, rl_xmk (by omega) ?_⟩
  by_cases q : z ≤ 0
  · rw [if_pos q] at hp
    exact br_t q hp
  · rw [if_neg q] at hp
    refine br_f q ⟨hi, ?_⟩
    exact rl_xmk (s := rl_mk (2 * t) (pd t) (rc t) s) (by omega) hp
theorem rl_oneE {x : Int32} (e : x = nI x.toNatClampNeg) : (1 : Int64) <<< (x.toInt64 &&& 63) = rl_one x.toNatClampNeg := by
  unfold rl_one
  rw [← e]
theorem rl_xapp {post : SX → Prop} (h : rl_TW cx cy T) (ht : t < T) (hp : post (tn, bn, tp, ap, (rl_app cx cy pd sn rc s t).1, (rl_app cx cy pd sn rc s t).2.1, cx, cy, pd, sn, rc, pa, hg, mi, tx, wk, co, ba, (rl_app cx cy pd sn rc s t).2.2.1, (rl_app cx cy pd sn rc s t).2.2.2, sp, mn, wy)) : wpX_apply post (tn, bn, tp, ap, s.1, s.2.1, cx, cy, pd, sn, rc, pa, hg, mi, tx, wk, co, ba, s.2.2.1, s.2.2.2, sp, mn, wy) (nI t) := by
  have hT := h.1
  have hi : vp_in (nI t) 16 := vp_in_nI (by omega) (by decide)
  have e : (nI t).toNatClampNeg = t := nI_clamp (by omega)
  obtain ⟨hx, ex⟩ := rl_cx h ht
  unfold rl_app rl_ap0 rl_rest at hp
  unfold wpX_apply
  dsimp only
  rw [e, rl_oneE ex]
  refine rl_xsum h ht ⟨hi, nm_e ⟨hi, ?_⟩⟩
  rcases rl_cy h ht with c | ⟨c, hy, ey⟩
  · refine nm_r (e' := rl_spd cx cy s.1 t) ?_ ⟨hi, br_t c ?_⟩
    · unfold rl_spd
      rw [if_pos c]
    · exact rl_x64 (s := rl_sp cx cy s t) (by omega) hp
  · rw [rl_oneE ey]
    refine nm_e ⟨hi, br_f c ⟨hi, nm_r (e' := rl_spd cx cy s.1 t) ?_ ?_⟩⟩
    · unfold rl_spd
      rw [if_neg c]
    · exact rl_x64 (s := rl_sp cx cy s t) (by omega) hp
theorem rl_xcar {post : Int32 → SX → Prop} {J : Int32 → Int32 → Int32 → Int32 → Int32 → Int64 → Int64 → (Nat → Int32) → (Nat → Int32) → (Nat → Int32) → (Nat → Int32) → (Nat → Int32) → (Nat → Int32) → (Nat → Int32) → (Nat → Int32) → (Nat → Int32) → (Nat → Int32) → (Nat → Int32) → (Nat → Int32) → (Nat → Int32) → (Nat → Int32) → (Nat → Int64) → (Nat → Int64) → (Nat → Int32) → Prop} {x1 x6 x : Int32} {x2 x4 : Int64} (h : rl_TW cx cy T) (hx : x = -1 ∨ ∃ k, k < T ∧ x = nI k) (hn : rl_car cx cy pd sn rc s x = none → post 0 (tn, bn, tp, ap, x2, x4, cx, cy, pd, sn, rc, pa, hg, mi, tx, wk, co, ba, s.2.2.1, s.2.2.2, sp, mn, wy)) (hs : ∀ s', rl_car cx cy pd sn rc s x = some s' → J (x6 + 1) tn bn tp ap s'.1 s'.2.1 cx cy pd sn rc pa hg mi tx wk co ba s'.2.2.1 s'.2.2.2 sp mn wy) : ((x < 0 → (wX_connect_63 post J x1 x2 x4 x6 x tn bn tp ap s.1 s.2.1 cx cy pd sn rc pa hg mi tx wk co ba s.2.2.1 s.2.2.2 sp mn wy)) ∧ (¬ x < 0 → (wpX_fitsHere (fun r_62 => (((r_62 = 0 → (wX_connect_68 post J x1 x2 x4 x6 x 0 tn bn tp ap s.1 s.2.1 cx cy pd sn rc pa hg mi tx wk co ba s.2.2.1 s.2.2.2 sp mn wy)) ∧ (¬ r_62 = 0 → (wX_connect_63 post J x1 x2 x4 x6 x tn bn tp ap s.1 s.2.1 cx cy pd sn rc pa hg mi tx wk co ba s.2.2.1 s.2.2.2 sp mn wy))))) (tn, bn, tp, ap, s.1, s.2.1, cx, cy, pd, sn, rc, pa, hg, mi, tx, wk, co, ba, s.2.2.1, s.2.2.2, sp, mn, wy) x))) := by
  have hT := h.1
  rcases hx with hx | ⟨k, hk, hx⟩
  · subst hx
    refine br_t (by decide) ?_
    unfold wX_connect_63 wX_connect_68
    exact br_f (by decide) (br_t (by decide) (nm_e (hs s rl_car_n)))
  · subst hx
    refine br_f (nI_pos (by omega)) (rl_xfit h hk ?_)
    have ec : rl_car cx cy pd sn rc s (nI k) = _ := rl_car_k (by omega)
    by_cases f : rl_fit cx cy pd s k = true
    · rw [f]
      rw [if_pos f] at ec
      refine br_f (by decide) ?_
      unfold wX_connect_63 wX_connect_68
      refine br_f (by decide) (br_f (nI_pos (by omega)) (rl_xapp h hk ?_))
      exact nm_e (hs _ ec)
    · rw [rl_bk f]
      rw [if_neg f] at ec
      refine br_t rfl ?_
      unfold wX_connect_68
      exact br_t rfl (hn ec)
theorem rl_x30s {post : Int32 → SX → Prop} {x2 x4 : Int64} {n i : Nat} (h : rl_TW cx cy T) (hb : b < 21) (hi2 : i < 2) (hx : tx (b * 2 + i) = -1 ∨ ∃ k, k < T ∧ tx (b * 2 + i) = nI k) (hn : rl_car cx cy pd sn rc s (tx (b * 2 + i)) = none → post 0 (tn, bn, tp, ap, x2, x4, cx, cy, pd, sn, rc, pa, hg, mi, tx, wk, co, ba, s.2.2.1, s.2.2.2, sp, mn, wy)) (hs : ∀ s', rl_car cx cy pd sn rc s (tx (b * 2 + i)) = some s' → wX_connect_30 post (nI b) x2 x4 n (nI (i + 1)) tn bn tp ap s'.1 s'.2.1 cx cy pd sn rc pa hg mi tx wk co ba s'.2.2.1 s'.2.2.2 sp mn wy) : wX_connect_30 post (nI b) x2 x4 (n + 1) (nI i) tn bn tp ap s.1 s.2.1 cx cy pd sn rc pa hg mi tx wk co ba s.2.2.1 s.2.2.2 sp mn wy := by
  have ei : nI b * 2 + nI i = nI (b * 2 + i) := by rw [rl_t2, nI_add]
  have e : (nI (b * 2 + i)).toNatClampNeg = b * 2 + i := nI_clamp (by omega)
  rw [wX_connect_30]
  dsimp only
  rw [ei, e]
  refine br_f (nI_ge (b := 2) hi2 (by decide)) ⟨vp_in_nI (by omega) (by decide), nm_e ?_⟩
  exact rl_xcar h hx hn (fun s' e' => by rw [nI_1]; exact hs s' e')
theorem rl_x30e {post : Int32 → SX → Prop} {x2 x4 : Int64} {n : Nat} (hb : b < 21) (hs : post 1 (tn, bn, tp, nI b, s.1, s.2.1, cx, cy, pd, sn, rc, pa, hg, mi, tx, wk, co, ba, s.2.2.1, s.2.2.2, vp_updL sp b (x2 &&& (s.1 ^^^ (-1))), vp_updL mn b (s.2.1 &&& (x4 ^^^ (-1))), wy)) : wX_connect_30 post (nI b) x2 x4 (n + 1) (nI 2) tn bn tp ap s.1 s.2.1 cx cy pd sn rc pa hg mi tx wk co ba s.2.2.1 s.2.2.2 sp mn wy := by
  have hi : vp_in (nI b) 21 := vp_in_nI hb (by decide)
  have e : (nI b).toNatClampNeg = b := nI_clamp (by omega)
  rw [wX_connect_30]
  dsimp only
  rw [e]
  exact br_t (by decide) ⟨hi, nm_e ⟨hi, nm_e hs⟩⟩
theorem rl_xcon {post : Int32 → SX → Prop} (h : rl_TW cx cy T) (hb : b < 21) (w : rl_WF s) (fr : rl_bit s.2.1 (32 + b) = false) (h0 : tx (b * 2) = -1 ∨ ∃ k, k < T ∧ tx (b * 2) = nI k) (h1 : tx (b * 2 + 1) = -1 ∨ ∃ k, k < T ∧ tx (b * 2 + 1) = nI k)
    (hs : ∀ s', rl_stp cx cy pd sn rc mi tx s b = some s' → post 1 (tn, bn, tp, nI b, s'.1, s'.2.1, cx, cy, pd, sn, rc, pa, hg, mi, tx, wk, co, ba, s'.2.2.1, s'.2.2.2, vp_updL sp b (s.1 &&& (s'.1 ^^^ (-1))), vp_updL mn b (s'.2.1 &&& (s.2.1 ^^^ (-1))), wy))
    (hn : rl_stp cx cy pd sn rc mi tx s b = none → ∀ am ow : Nat → Int32, (∀ c, c < 64 → rl_bit s.2.1 c = true → am c = s.2.2.1 c ∧ ow c = s.2.2.2 c) → post 0 (tn, bn, tp, ap, s.1, s.2.1, cx, cy, pd, sn, rc, pa, hg, mi, tx, wk, co, ba, am, ow, sp, mn, wy)) : wpX_connect post (tn, bn, tp, ap, s.1, s.2.1, cx, cy, pd, sn, rc, pa, hg, mi, tx, wk, co, ba, s.2.2.1, s.2.2.2, sp, mn, wy) (nI b) := by
  have hi : vp_in (nI b) 21 := vp_in_nI hb (by decide)
  have e : (nI b).toNatClampNeg = b := nI_clamp (by omega)
  have w0 : rl_WF (rl_mk (32 + b) 50 (mi b) s) := rl_mkb_wf (by omega) w
  have x0 : rl_Ext s (rl_mk (32 + b) 50 (mi b) s) := rl_mk_ext (by omega) fr
  unfold wpX_connect
  dsimp only
  rw [e, rl_32]
  refine ⟨hi, rl_xmk (by omega) ⟨3, ?_⟩⟩
  refine rl_x30s (s := rl_mk (32 + b) 50 (mi b) s) (n := 2) (i := 0) h hb (by decide) h0 (fun e0 => ?_) (fun s1 e0 => ?_)
  · refine hn ?_ _ _ x0.2.2
    unfold rl_stp
    rw [show rl_car cx cy pd sn rc (rl_mk (32 + b) 50 (mi b) s) (tx (b * 2)) = none from e0]
    rfl
  · have e0' : rl_car cx cy pd sn rc (rl_mk (32 + b) 50 (mi b) s) (tx (b * 2)) = some s1 := e0
    have est : rl_stp cx cy pd sn rc mi tx s b = rl_car cx cy pd sn rc s1 (tx (b * 2 + 1)) := by
      unfold rl_stp
      rw [e0']
      rfl
    refine rl_x30s (s := s1) (n := 1) (i := 1) h hb (by decide) h1 (fun e1 => ?_) (fun s2 e1 => ?_)
    · exact hn (est.trans e1) _ _ (rl_ext_t x0 (rl_car_p h w0 h0 e0').2.1).2.2
    · exact rl_x30e (s := s2) (n := 0) hb (hs s2 (est.trans e1))
end
end
section
/-! X's walks: undoing a block, the fork, going to a block -/
def rl_XE (B : Nat) (par H : Nat → Nat) (pa hg : Nat → Int32) : Prop := pa 0 = -1 ∧ (∀ i, 0 < i → i < B → pa i = nI (par i)) ∧ ∀ i, i < B → hg i = nI (H i)
def rl_NT (N : Nat) (par : Nat → Nat) (G : Nat → Option rl_PS) (sp mn : Nat → Int64) : Prop := ∀ b, 0 < b → b < N → ∀ g, G b = some g → ∀ gp, G (par b) = some gp → sp b = gp.1 &&& (g.1 ^^^ (-1)) ∧ mn b = g.2.1 &&& (gp.2.1 ^^^ (-1))
def rl_it (par : Nat → Nat) : Nat → Nat → Nat
  | 0, b => b
  | k + 1, b => par (rl_it par k b)
section
variable {tn bn tp ap : Int32} {cx cy pd sn rc pa hg mi tx wk co ba : Nat → Int32} {sp mn : Nat → Int64} {wy : Nat → Int32} {s : rl_PS} {par H : Nat → Nat} {G : Nat → Option rl_PS} {T B N a b c : Nat} {g gp : rl_PS}
theorem rl_NT_u {N' : Nat} {w1 w2 : Int64} (h : rl_NT N par G sp mn) (hN : ∀ i, i < N' → i = b ∨ i < N) (eb : G b = some g) (ep : G (par b) = some gp) (e1 : w1 = gp.1 &&& (g.1 ^^^ (-1))) (e2 : w2 = g.2.1 &&& (gp.2.1 ^^^ (-1))) : rl_NT N' par G (vp_updL sp b w1) (vp_updL mn b w2) := by
  intro i h0 hi q eq qp eqp
  by_cases z : i = b
  · subst z
    rw [eb] at eq
    rw [ep] at eqp
    cases eq
    cases eqp
    rw [pk_uLs, pk_uLs]
    exact ⟨e1, e2⟩
  · rw [pk_uLn z, pk_uLn z]
    exact h i h0 ((hN i hi).resolve_left z) q eq qp eqp
theorem rl_xdis {post : SX → Prop} (E : rl_EN T B par G cx cy pd sn rc mi tx) (X : rl_XE B par H pa hg) (NT : rl_NT N par G sp mn) (hN : N ≤ B) (h0 : 0 < a) (ha : a < N) (eg : G a = some g) (ag : rl_ag g s) (hp : ∀ gp s', G (par a) = some gp → rl_ag gp s' → post (tn, bn, tp, nI (par a), s'.1, s'.2.1, cx, cy, pd, sn, rc, pa, hg, mi, tx, wk, co, ba, s'.2.2.1, s'.2.2.2, sp, mn, wy)) : wpX_disconnect post (tn, bn, tp, nI a, s.1, s.2.1, cx, cy, pd, sn, rc, pa, hg, mi, tx, wk, co, ba, s.2.2.1, s.2.2.2, sp, mn, wy) := by
  have hB := E.1
  have hi : vp_in (nI a) 21 := vp_in_nI (by omega) (by decide)
  have e : (nI a).toNatClampNeg = a := nI_clamp (by omega)
  obtain ⟨gp, ep, _⟩ := rl_G_up E h0 (by omega) eg
  have x := (rl_G_st E h0 (by omega) ep eg).1
  have w := (rl_G_p E a (by omega) g eg).1
  have wp := (rl_G_fr E h0 (by omega) ep).1
  obtain ⟨n1, n2⟩ := NT a h0 ha g eg gp ep
  unfold wpX_disconnect
  dsimp only
  rw [e]
  refine ⟨hi, hi, nm_r (e' := gp.1) ?_ ⟨hi, nm_r (e' := gp.2.1) ?_ ⟨hi, nm_r (X.2.1 a h0 (by omega)) ?_⟩⟩⟩
  · rw [n1, n2, ag.1]
    exact (rl_undo w x).resolve_right (fun z => z wp)
  · rw [n2, ag.2.1]
    exact rl_undo_m x
  · exact hp gp (gp.1, gp.2.1, s.2.2) ep ⟨rfl, rfl, fun c hc hb => by
      have p := ag.2.2 c hc (x.1 c hc hb)
      have q := x.2.2 c hc hb
      exact ⟨p.1.trans q.1, p.2.trans q.2⟩⟩
theorem rl_fk {x y : Nat} (P : rl_PW par) (hw : rl_HW B par H) (hx : x < B) (hy : y < B) (ne : x ≠ y) (l : H y ≤ H x) : 0 < x ∧ ∀ q, (rl_an par q (par x) && rl_an par q y) = (rl_an par q x && rl_an par q y) := by
  have h0 : 0 < x := by
    rcases Nat.eq_zero_or_pos x with z | z
    · subst z
      have := rl_H_2 P hw (b := y) (by omega) hy
      rw [hw.1] at l
      omega
    · exact z
  refine ⟨h0, fun q => ?_⟩
  rw [rl_an_s P (a := q) h0]
  by_cases e : x = q
  · subst e
    have f : rl_an par x y = false := rl_bk fun z => by
      rcases rl_H_an P hw y hy z with r | r
      · exact ne r
      · omega
    rw [f, Bool.and_false, Bool.and_false]
  · rw [decide_eq_false e, Bool.false_or]
theorem rl_xfork_l {post : Int32 → Prop} {a0 b0 : Nat} (hB : B ≤ 21) (P : rl_PW par) (X : rl_XE B par H pa hg) (hw : rl_HW B par H) (hp : ∀ c, c < B → (∀ q, rl_an par q c = (rl_an par q a0 && rl_an par q b0)) → post (nI c)) : ∀ n x y k, H x + H y < n → x < B → y < B → k + H x + H y ≤ 42 → (∀ q, (rl_an par q x && rl_an par q y) = (rl_an par q a0 && rl_an par q b0)) → wX_fork_8 post tn bn tp ap s.1 s.2.1 cx cy pd sn rc pa hg mi tx wk co ba s.2.2.1 s.2.2.2 sp mn wy n (nI x) (nI y) (nI k) := by
  intro n
  induction n with
  | zero => intro x y k h; omega
  | succ n ih =>
    intro x y k hm hx hy hk inv
    have l1 := rl_H_le P hw x hx
    have l2 := rl_H_le P hw y hy
    have ex : (nI x).toNatClampNeg = x := nI_clamp (by omega)
    have ey : (nI y).toNatClampNeg = y := nI_clamp (by omega)
    have ix : vp_in (nI x) 21 := vp_in_nI (by omega) (by decide)
    have iy : vp_in (nI y) 21 := vp_in_nI (by omega) (by decide)
    rw [wX_fork_8]
    dsimp only
    refine br_f (nI_ge (b := 42) (by omega) (by decide)) ?_
    by_cases exy : x = y
    · subst exy
      exact br_t rfl (hp x hx (fun q => by rw [← inv q, Bool.and_self]))
    · refine br_f (fun z => exy ((nI_eq (by omega) (by omega)).mp z)) ⟨ix, iy, ?_⟩
      rw [ex, ey, X.2.2 x hx, X.2.2 y hy]
      by_cases l : H x < H y
      · obtain ⟨h0, f⟩ := rl_fk P hw hy hx (fun z => exy z.symm) (by omega)
        have hpy := P.2 y h0
        have eH := hw.2 y h0 hy
        refine br_t (nI_lt l (by omega)) ⟨iy, nm_r (X.2.1 y h0 hy) (nm_r (nI_1 k) ?_)⟩
        refine ih x (par y) (k + 1) (by omega) hx (by omega) (by omega) (fun q => ?_)
        rw [← inv q, Bool.and_comm, f q, Bool.and_comm]
      · obtain ⟨h0, f⟩ := rl_fk P hw hx hy exy (by omega)
        have hpx := P.2 x h0
        have eH := hw.2 x h0 hx
        refine br_f (nI_nlt (by omega) (by omega)) ⟨ix, nm_r (X.2.1 x h0 hx) (nm_r (nI_1 k) ?_)⟩
        refine ih (par x) y (k + 1) (by omega) (by omega) hy (by omega) (fun q => ?_)
        rw [← inv q, f q]
theorem rl_xfork {post : Int32 → Prop} (hB : B ≤ 21) (P : rl_PW par) (X : rl_XE B par H pa hg) (hw : rl_HW B par H) (ha : a < B) (hb : b < B) (hp : ∀ c, c < B → (∀ q, rl_an par q c = (rl_an par q a && rl_an par q b)) → post (nI c)) : wpX_fork post (tn, bn, tp, ap, s.1, s.2.1, cx, cy, pd, sn, rc, pa, hg, mi, tx, wk, co, ba, s.2.2.1, s.2.2.2, sp, mn, wy) (nI a) (nI b) := by
  have l1 := rl_H_le P hw a ha
  have l2 := rl_H_le P hw b hb
  exact ⟨43, rl_xfork_l hB P X hw hp 43 a b 0 (by omega) ha hb (by omega) (fun q => rfl)⟩
theorem rl_it_an (P : rl_PW par) (t : Nat) : ∀ k, rl_an par (rl_it par k t) t = true := by
  intro k
  induction k with
  | zero => exact rl_an_self
  | succ k ih => exact rl_an_par P ih
theorem rl_x88 {post : SX → Prop} {t : Nat} {gt : rl_PS} (E : rl_EN T B par G cx cy pd sn rc mi tx) (hN : N ≤ B) (ht : t < N) (et : G t = some gt) : ∀ m n (ap : Int32) (sp mn : Nat → Int64) (s g : rl_PS), m < n → m ≤ 20 → ap = nI (rl_it par m t) → G (rl_it par m t) = some g → rl_ag g s → rl_NT N par G sp mn → (∀ i, i < m → wy i = nI (rl_it par i t) ∧ 0 < rl_it par i t) → (∀ s' sp' mn', rl_ag gt s' → rl_NT N par G sp' mn' → post (tn, bn, tp, nI t, s'.1, s'.2.1, cx, cy, pd, sn, rc, pa, hg, mi, tx, wk, co, ba, s'.2.2.1, s'.2.2.2, sp', mn', wy)) → wX_goTo_88 post n (nI m - 1) tn bn tp ap s.1 s.2.1 cx cy pd sn rc pa hg mi tx wk co ba s.2.2.1 s.2.2.2 sp mn wy := by
  have hB := E.1
  have P := E.2.2.2.1
  intro m
  induction m with
  | zero =>
    intro n ap sp mn s g hn _ ea eg ag NT _ hp
    obtain ⟨n, rfl⟩ : ∃ k, n = k + 1 := ⟨n - 1, by omega⟩
    have e : gt = g := Option.some.inj (et.symm.trans eg)
    subst e
    subst ea
    rw [wX_goTo_88]
    dsimp only
    exact br_t (by decide) (hp s sp mn ag NT)
  | succ m ih =>
    intro n ap sp mn s g hn hm ea eg ag NT hw hp
    obtain ⟨n, rfl⟩ : ∃ k, n = k + 1 := ⟨n - 1, by omega⟩
    obtain ⟨w1, w2⟩ := hw m (by omega)
    have hbt := rl_an_le P _ (rl_it_an P t m)
    obtain ⟨gb, eb, _⟩ := rl_G_an E t (by omega) (rl_it_an P t m) gt et
    have ep : G (par (rl_it par m t)) = some g := eg
    obtain ⟨wg, fr⟩ := rl_G_fr E w2 (by omega) ep
    have est := rl_G_dn E w2 (by omega) ep
    rw [eb] at est
    have em : (nI m).toNatClampNeg = m := nI_clamp (by omega)
    rw [nI_pred, wX_goTo_88]
    dsimp only
    rw [em, w1]
    refine br_f (nI_pos (by omega)) ⟨vp_in_nI (by omega) (by decide), ?_⟩
    refine rl_xcon E.2.1 (by omega) (rl_ag_wf ag wg) (by rw [ag.2.1]; exact fr) (rl_tx0 E (by omega)) (rl_tx1 E (by omega)) (fun s' es => ?_) (fun es => ?_)
    · rcases rl_stp_ag (b := rl_it par m t) (mi := mi) (pd := pd) (sn := sn) (rc := rc) (by omega) E.2.1 wg (rl_tx0 E (by omega)) (rl_tx1 E (by omega)) ag with ⟨q, _⟩ | ⟨r, r', q, q', agr⟩
      · rw [← est] at q
        cases q
      · rw [← est] at q
        rw [es] at q'
        cases q
        cases q'
        have ex : nI m + (-1) = nI m - 1 := (Int32.sub_eq_add_neg _ _).symm
        refine nm_r ex ?_
        refine ih n _ _ _ s' gb (by omega) (by omega) rfl eb agr ?_ (fun i hi => hw i (by omega)) hp
        exact rl_NT_u NT (fun i hi => Or.inr hi) eb ep (by rw [ag.1, agr.1]) (by rw [ag.2.1, agr.2.1])
    · rcases rl_stp_ag (b := rl_it par m t) (mi := mi) (pd := pd) (sn := sn) (rc := rc) (by omega) E.2.1 wg (rl_tx0 E (by omega)) (rl_tx1 E (by omega)) ag with ⟨q, _⟩ | ⟨r, r', q, q', agr⟩
      · rw [← est] at q
        cases q
      · rw [es] at q'
        cases q'
theorem rl_x44 {post : SX → Prop} {t : Nat} (hB : B ≤ 21) (P : rl_PW par) (X : rl_XE B par H pa hg) (hw : rl_HW B par H) (ht : t < B) (hp : ∀ m wy', m ≤ 20 → rl_it par m t = c → (∀ i, i < m → wy' i = nI (rl_it par i t) ∧ 0 < rl_it par i t) → ∃ n88, wX_goTo_88 post n88 (nI m - 1) tn bn tp ap s.1 s.2.1 cx cy pd sn rc pa hg mi tx wk co ba s.2.2.1 s.2.2.2 sp mn wy') : ∀ n m (wy : Nat → Int32), H (rl_it par m t) < n → m + H (rl_it par m t) ≤ 21 → rl_an par c (rl_it par m t) = true → (∀ i, i < m → wy i = nI (rl_it par i t) ∧ 0 < rl_it par i t) → wX_goTo_44 post (nI c) tn bn tp ap s.1 s.2.1 n (nI m) (nI (rl_it par m t)) (nI m) cx cy pd sn rc pa hg mi tx wk co ba s.2.2.1 s.2.2.2 sp mn wy := by
  intro n
  induction n with
  | zero => intro m wy h; omega
  | succ n ih =>
    intro m wy hn hm q hy
    have hle := rl_an_le P _ (rl_it_an P t m)
    have hcl := rl_an_le P _ q
    have l1 := rl_H_le P hw (rl_it par m t) (by omega)
    rw [wX_goTo_44]
    dsimp only
    refine br_f (nI_ge (b := 21) (by omega) (by decide)) ?_
    by_cases e : rl_it par m t = c
    · refine br_t (congrArg nI e) (nm_e ?_)
      exact hp m wy (by omega) e hy
    · have h0 : 0 < rl_it par m t := by omega
      have em : (nI m).toNatClampNeg = m := nI_clamp (by omega)
      have ei : (nI (rl_it par m t)).toNatClampNeg = rl_it par m t := nI_clamp (by omega)
      have eH := hw.2 _ h0 (by omega)
      rw [em, ei]
      refine br_f (fun z => e ((nI_eq (by omega) (by omega)).mp z)) ⟨vp_in_nI (by omega) (by decide), nm_e (nm_r (nI_1 m) ⟨vp_in_nI (by omega) (by decide), nm_r (X.2.1 _ h0 (by omega)) (nm_r (nI_1 m) ?_)⟩)⟩
      have q' : rl_an par c (par (rl_it par m t)) = true := by
        rcases (rl_an_i P h0).mp q with r | r
        · exact absurd r e
        · exact r
      refine ih (m + 1) _ ?_ ?_ q' ?_
      · show H (par (rl_it par m t)) < n
        omega
      · show m + 1 + H (par (rl_it par m t)) ≤ 21
        omega
      · intro i hi
        by_cases z : i = m
        · subst z
          rw [pk_us]
          exact ⟨rfl, h0⟩
        · rw [pk_un z]
          exact hy i (by omega)
theorem rl_x12 {post : SX → Prop} {t : Nat} (E : rl_EN T B par G cx cy pd sn rc mi tx) (X : rl_XE B par H pa hg) (hw : rl_HW B par H) (NT : rl_NT N par G sp mn) (hN : N ≤ B) (hp : ∀ gc s', G c = some gc → rl_ag gc s' → ∃ n44, wX_goTo_44 post (nI c) tn bn tp (nI c) s'.1 s'.2.1 n44 0 (nI t) 0 cx cy pd sn rc pa hg mi tx wk co ba s'.2.2.1 s'.2.2.2 sp mn wy) : ∀ n k a (s g : rl_PS), H a < n → k + H a ≤ 21 → a < N → rl_an par c a = true → G a = some g → rl_ag g s → wX_goTo_12 post (nI t) (nI c) n (nI k) tn bn tp (nI a) s.1 s.2.1 cx cy pd sn rc pa hg mi tx wk co ba s.2.2.1 s.2.2.2 sp mn wy := by
  have hB := E.1
  have P := E.2.2.2.1
  intro n
  induction n with
  | zero => intro k a s g h; omega
  | succ n ih =>
    intro k a s g hn hk ha q eg ag
    have hcl := rl_an_le P _ q
    have l1 := rl_H_le P hw a (by omega)
    rw [wX_goTo_12]
    dsimp only
    refine br_f (nI_ge (b := 21) (by omega) (by decide)) ?_
    by_cases e : a = c
    · subst e
      exact br_t rfl (hp g s eg ag)
    · refine br_f (fun z => e ((nI_eq (by omega) (by omega)).mp z)) ?_
      have h0 : 0 < a := by omega
      have hpa := P.2 a h0
      have eH := hw.2 a h0 (by omega)
      refine rl_xdis E X NT hN h0 ha eg ag (fun gp s' ep ag' => ?_)
      refine nm_r (nI_1 k) ?_
      refine ih (k + 1) (par a) s' gp (by omega) (by omega) (by omega) ?_ ep ag'
      rcases (rl_an_i P h0).mp q with r | r
      · exact absurd r e
      · exact r
theorem rl_xgo {post : SX → Prop} {t : Nat} {gt : rl_PS} (E : rl_EN T B par G cx cy pd sn rc mi tx) (X : rl_XE B par H pa hg) (hw : rl_HW B par H) (NT : rl_NT N par G sp mn) (hN : N ≤ B) (ha : a < N) (ht : t < N) (eg : G a = some g) (ag : rl_ag g s) (et : G t = some gt) (hp : ∀ s' sp' mn' wy', rl_ag gt s' → rl_NT N par G sp' mn' → post (tn, bn, tp, nI t, s'.1, s'.2.1, cx, cy, pd, sn, rc, pa, hg, mi, tx, wk, co, ba, s'.2.2.1, s'.2.2.2, sp', mn', wy')) : wpX_goTo post (tn, bn, tp, nI a, s.1, s.2.1, cx, cy, pd, sn, rc, pa, hg, mi, tx, wk, co, ba, s.2.2.1, s.2.2.2, sp, mn, wy) (nI t) := by
  have hB := E.1
  have P := E.2.2.2.1
  have la := rl_H_le P hw a (by omega)
  have lt := rl_H_le P hw t (by omega)
  unfold wpX_goTo
  dsimp only
  refine rl_xfork hB.2 P X hw (by omega) (by omega) (fun c hc hq => ?_)
  have hca : rl_an par c a = true ∧ rl_an par c t = true := by
    have := hq c
    rw [rl_an_self] at this
    exact (Bool.and_eq_true _ _).mp this.symm
  refine ⟨22, rl_x12 E X hw NT hN (fun gc s' ec ag' => ?_) 22 0 a s g (by omega) (by omega) ha hca.1 eg ag⟩
  refine ⟨22, rl_x44 hB.2 P X hw (by omega) (fun m wy' hm em hy => ?_) 22 0 wy ?_ ?_ hca.2 (fun i hi => by omega)⟩
  · refine ⟨m + 1, ?_⟩
    rw [← em] at ec
    exact rl_x88 E hN ht et m (m + 1) _ sp mn s' gc (by omega) hm (by rw [em]) ec ag' NT hy (fun s'' sp' mn' h1 h2 => hp s'' sp' mn' wy' h1 h2)
  · show H t < 22
    omega
  · show 0 + H t ≤ 21
    omega
end
end
section
/-! X's walks: validity, the choice of the tip -/
def rl_WW (B : Nat) (par W : Nat → Nat) (ws : Nat → Int32) : Prop := (W 0 = 0 ∧ ws 0 = 0) ∧ ∀ i, 0 < i → i < B → W (par i) < W i ∧ W i ≤ W (par i) + 15 ∧ ws i = nI (W i - W (par i))
def rl_best (B : Nat) (V : Nat → Bool) (W : Nat → Nat) (tip F : Nat) : Prop := F < B ∧ V F = true ∧ (∀ b, b < B → V b = true → W b ≤ W F) ∧ (F = tip ∨ (¬ (V tip = true ∧ W F ≤ W tip) ∧ ∀ b, b < F → V b = true → W b < W F))
theorem rl_best_u {B : Nat} {V : Nat → Bool} {W : Nat → Nat} {tip F F' : Nat} (h : rl_best B V W tip F) (h' : rl_best B V W tip F') : F = F' := by
  obtain ⟨a1, a2, a3, a4⟩ := h
  obtain ⟨b1, b2, b3, b4⟩ := h'
  have e1 := a3 F' b1 b2
  have e2 := b3 F a1 a2
  rcases a4 with q | ⟨q1, q2⟩
  · rcases b4 with r | ⟨r1, r2⟩
    · omega
    · subst q
      exact absurd ⟨a2, e1⟩ r1
  · rcases b4 with r | ⟨r1, r2⟩
    · subst r
      exact absurd ⟨b2, e2⟩ q1
    · rcases Nat.lt_trichotomy F F' with l | l | l
      · have := r2 F l a2
        omega
      · exact l
      · have := q2 F' l b2
        omega
section
variable {tn bn tp ap : Int32} {cx cy pd sn rc pa hg mi tx wk co ba : Nat → Int32} {sp mn : Nat → Int64} {wy : Nat → Int32} {s : rl_PS} {par H W : Nat → Nat} {ws : Nat → Int32} {G : Nat → Option rl_PS} {T B N a b c : Nat} {g gp : rl_PS}
theorem rl_W_le (P : rl_PW par) (h : rl_WW B par W ws) : ∀ i, i < B → W i ≤ 15 * i := by
  intro i
  induction i using Nat.strongRecOn with
  | _ i ih =>
    intro hi
    by_cases z : i = 0
    · subst z
      rw [h.1.1]
      omega
    · have hp := P.2 i (by omega)
      have q := ih (par i) hp (by omega)
      have := (h.2 i (by omega) hi).2.1
      omega
theorem rl_x15 {post : Int32 → Prop} (hB : B ≤ 21) (P : rl_PW par) (X : rl_XE B par H pa hg) : ∀ m n k b, k + m = 21 → m < n → b < B → b < m → post (rl_b01 (rl_nbF par ba m b)) → wX_isValid_15 post tn bn tp ap s.1 s.2.1 cx cy pd sn rc pa hg mi tx wk co ba s.2.2.1 s.2.2.2 sp mn wy n (nI b) (nI k) := by
  intro m
  induction m with
  | zero => intro n k b _ _ _ h; omega
  | succ m ih =>
    intro n k b hk hn hb hm hp
    obtain ⟨n, rfl⟩ : ∃ q, n = q + 1 := ⟨n - 1, by omega⟩
    have hi : vp_in (nI b) 21 := vp_in_nI (by omega) (by decide)
    have e : (nI b).toNatClampNeg = b := nI_clamp (by omega)
    have ev : rl_nbF par ba (m + 1) b = (decide (ba b = 0) && (decide (b = 0) || rl_nbF par ba m (par b))) := rfl
    rw [ev] at hp
    rw [wX_isValid_15]
    dsimp only
    rw [e]
    refine br_f (nI_ge (b := 21) (by omega) (by decide)) (br_f (nI_pos (by omega)) ⟨hi, ?_⟩)
    by_cases q : ba b = 0
    · refine br_t q ⟨hi, ?_⟩
      rw [decide_eq_true q] at hp
      by_cases z : b = 0
      · subst z
        rw [decide_eq_true rfl] at hp
        refine nm_r X.1 (nm_r (nI_1 k) ?_)
        obtain ⟨n, rfl⟩ : ∃ q, n = q + 1 := ⟨n - 1, by omega⟩
        rw [wX_isValid_15]
        dsimp only
        exact br_c (fun _ => hp) (fun _ => br_t (by decide) hp)
      · rw [decide_eq_false z] at hp
        have hpb := P.2 b (by omega)
        refine nm_r (X.2.1 b (by omega) hb) (nm_r (nI_1 k) ?_)
        exact ih n (k + 1) (par b) (by omega) (by omega) (by omega) (by omega) hp
    · rw [decide_eq_false q] at hp
      exact br_f q hp
theorem rl_xval {post : Int32 → Prop} (hB : B ≤ 21) (P : rl_PW par) (X : rl_XE B par H pa hg) (C : ∀ i, i < B → co i = rl_b01 (G i).isSome) (hb : b < B) (hp : post (rl_b01 (rl_V par ba G b))) : wpX_isValid post (tn, bn, tp, ap, s.1, s.2.1, cx, cy, pd, sn, rc, pa, hg, mi, tx, wk, co, ba, s.2.2.1, s.2.2.2, sp, mn, wy) (nI b) := by
  have hi : vp_in (nI b) 21 := vp_in_nI (by omega) (by decide)
  have e : (nI b).toNatClampNeg = b := nI_clamp (by omega)
  unfold rl_V at hp
  unfold wpX_isValid
  dsimp only
  rw [e, C b hb]
  refine ⟨hi, ?_⟩
  cases q : (G b).isSome with
  | false =>
    rw [q] at hp
    exact br_t rfl hp
  | true =>
    rw [q] at hp
    exact br_f (by decide) ⟨22, rl_x15 hB P X 21 22 0 b rfl (by decide) hb (by omega) hp⟩
theorem rl_xsm {post : Int32 → Prop} {m : Nat} (hB : B ≤ 21) (P : rl_PW par) (X : rl_XE B par H pa hg) (C : ∀ i, i < B → co i = rl_b01 (G i).isSome) (hW : rl_WW B par W ws) (K : ∀ i, i < B → wk i = nI (W i)) (hm : m < B) (hp : ∀ F, F ≤ m → (F = m ∨ (W F = W m ∧ rl_V par ba G F = true)) → (∀ i, i < F → ¬ (W i = W m ∧ rl_V par ba G i = true)) → post (nI F)) : ∀ n j, m - j < n → j ≤ m → (∀ i, i < j → ¬ (W i = W m ∧ rl_V par ba G i = true)) → wX_smallestLike_2 post (nI m) tn bn tp ap s.1 s.2.1 cx cy pd sn rc pa hg mi tx wk co ba s.2.2.1 s.2.2.2 sp mn wy n (nI j) := by
  intro n
  induction n with
  | zero => intro j h; omega
  | succ n ih =>
    intro j hn hj inv
    have im : vp_in (nI m) 21 := vp_in_nI (by omega) (by decide)
    have em : (nI m).toNatClampNeg = m := nI_clamp (by omega)
    have ij : vp_in (nI j) 21 := vp_in_nI (by omega) (by decide)
    have ej : (nI j).toNatClampNeg = j := nI_clamp (by omega)
    rw [wX_smallestLike_2]
    dsimp only
    by_cases z : j = m
    · subst z
      exact br_t (nI_le (by omega) (by omega)) (hp j (by omega) (Or.inl rfl) inv)
    · have l1 := rl_W_le P hW j (by omega)
      have l2 := rl_W_le P hW m hm
      have nx : ¬ (W j = W m ∧ rl_V par ba G j = true) → wX_smallestLike_2 post (nI m) tn bn tp ap s.1 s.2.1 cx cy pd sn rc pa hg mi tx wk co ba s.2.2.1 s.2.2.2 sp mn wy n (nI j + 1) := fun q => by
        rw [nI_1]
        refine ih (j + 1) (by omega) (by omega) (fun i hi => ?_)
        by_cases y : i = j
        · subst y; exact q
        · exact inv i (by omega)
      rw [ej, em, K j (by omega), K m hm]
      refine br_f (nI_ge (by omega) (by omega)) ⟨ij, im, ?_⟩
      by_cases q : W j = W m
      · refine br_t (congrArg nI q) (rl_xval hB P X C (by omega) ?_)
        cases v : rl_V par ba G j with
        | false =>
          refine br_t rfl ?_
          unfold wX_smallestLike_34 wX_smallestLike_35
          exact br_t rfl (nm_e (nx (fun y => by rw [v] at y; cases y.2)))
        | true =>
          refine br_f (by decide) ?_
          unfold wX_smallestLike_35
          exact br_f (by decide) (hp j hj (Or.inr ⟨q, v⟩) inv)
      · refine br_f (fun y => q ((nI_eq (by omega) (by omega)).mp y)) ?_
        unfold wX_smallestLike_34 wX_smallestLike_35
        exact br_t rfl (nm_e (nx (fun y => q y.1)))
theorem rl_x22 {post : SX → Prop} {tip : Nat} (hB : B ≤ 21) (P : rl_PW par) (X : rl_XE B par H pa hg) (C : ∀ i, i < B → co i = rl_b01 (G i).isSome) (hW : rl_WW B par W ws) (K : ∀ i, i < B → wk i = nI (W i)) (ht : tip < B) (hp : ∀ F, rl_best B (rl_V par ba G) W tip F → wX_chooseTip_77 post (nI F) tn (nI B) (nI tip) ap s.1 s.2.1 cx cy pd sn rc pa hg mi tx wk co ba s.2.2.1 s.2.2.2 sp mn wy) : ∀ n m j, B - j < n → j ≤ B → m < B → rl_V par ba G m = true → (∀ i, i < j → rl_V par ba G i = true → W i ≤ W m) → (rl_V par ba G tip = true → m = tip ∨ W tip < W m) → wX_chooseTip_22 post tn (nI B) (nI tip) ap s.1 s.2.1 cx cy pd sn rc pa hg mi tx wk co ba s.2.2.1 s.2.2.2 sp mn wy n (nI m) (nI j) := by
  intro n
  induction n with
  | zero => intro m j h; omega
  | succ n ih =>
    intro m j hn hj hm vm mx tq
    rw [wX_chooseTip_22]
    dsimp only
    by_cases z : j = B
    · subst z
      refine br_t (nI_le (by omega) (by omega)) ?_
      by_cases y : m = tip
      · subst y
        exact br_t rfl (hp m ⟨hm, vm, mx, Or.inl rfl⟩)
      · refine br_f (fun q => y ((nI_eq (by omega) (by omega)).mp q)) ?_
        refine ⟨22, rl_xsm hB P X C hW K hm (fun F hF eF lF => ?_) 22 0 (by omega) (by omega) (fun i hi => by omega)⟩
        have eW : W F = W m ∧ rl_V par ba G F = true := by
          rcases eF with q | q
          · subst q; exact ⟨rfl, vm⟩
          · exact q
        refine hp F ⟨by omega, eW.2, fun b hb vb => by rw [eW.1]; exact mx b hb vb, Or.inr ⟨fun q => ?_, fun b hb vb => ?_⟩⟩
        · rcases tq q.1 with r | r
          · exact y r
          · have := q.2
            omega
        · have h1 := mx b (by omega) vb
          have h2 : ¬ W b = W m := fun q => lF b hb ⟨q, vb⟩
          omega
    · have ij : vp_in (nI j) 21 := vp_in_nI (by omega) (by decide)
      have ej : (nI j).toNatClampNeg = j := nI_clamp (by omega)
      have im : vp_in (nI m) 21 := vp_in_nI (by omega) (by decide)
      have em : (nI m).toNatClampNeg = m := nI_clamp (by omega)
      have l1 := rl_W_le P hW j (by omega)
      have l2 := rl_W_le P hW m hm
      rw [ej, em, K j (by omega), K m hm]
      refine br_f (nI_ge (by omega) (by omega)) (rl_xval hB P X C (by omega) ?_)
      cases v : rl_V par ba G j with
      | false =>
        refine br_t rfl (nm_r (nI_1 j) (ih m (j + 1) (by omega) (by omega) hm vm (fun i hi vi => ?_) tq))
        by_cases y : i = j
        · subst y; rw [v] at vi; cases vi
        · exact mx i (by omega) vi
      | true =>
        refine br_f (by decide) ⟨ij, im, ?_⟩
        by_cases q : W j ≤ W m
        · refine br_t (nI_le q (by omega)) (nm_r (nI_1 j) (ih m (j + 1) (by omega) (by omega) hm vm (fun i hi vi => ?_) tq))
          by_cases y : i = j
          · subst y; exact q
          · exact mx i (by omega) vi
        · refine br_f (nI_ge (by omega) (by omega)) (nm_r (nI_1 j) (ih j (j + 1) (by omega) (by omega) (by omega) v (fun i hi vi => ?_) (fun r => ?_)))
          · by_cases y : i = j
            · subst y; exact Nat.le_refl _
            · have := mx i (by omega) vi
              omega
          · rcases tq r with u | u
            · subst u; exact Or.inr (by omega)
            · exact Or.inr (by omega)
theorem rl_V0 (E : rl_EN T B par G cx cy pd sn rc mi tx) (h0 : ba 0 = 0) : rl_V par ba G 0 = true := by
  have P := E.2.2.2.1
  refine (rl_V_iff P (by decide)).mpr ⟨E.2.2.2.2.1, fun a q => ?_⟩
  rw [rl_an_0 P, decide_eq_true_eq] at q
  rw [← q]
  exact h0
theorem rl_xch {post : SX → Prop} {tip : Nat} (E : rl_EN T B par G cx cy pd sn rc mi tx) (X : rl_XE B par H pa hg) (hw : rl_HW B par H) (C : ∀ i, i < B → co i = rl_b01 (G i).isSome) (hW : rl_WW B par W ws) (K : ∀ i, i < B → wk i = nI (W i)) (h0 : ba 0 = 0) (ht : tip < B) (NT : rl_NT B par G sp mn) (ha : a < B) (eg : G a = some g) (ag : rl_ag g s) (hp : ∀ F gF s' sp' mn' wy', rl_best B (rl_V par ba G) W tip F → G F = some gF → rl_ag gF s' → rl_NT B par G sp' mn' → post (tn, nI B, nI F, nI F, s'.1, s'.2.1, cx, cy, pd, sn, rc, pa, hg, mi, tx, wk, co, ba, s'.2.2.1, s'.2.2.2, sp', mn', wy')) : wpX_chooseTip post (tn, nI B, nI tip, nI a, s.1, s.2.1, cx, cy, pd, sn, rc, pa, hg, mi, tx, wk, co, ba, s.2.2.1, s.2.2.2, sp, mn, wy) := by
  have hB := E.1
  have P := E.2.2.2.1
  have v0 := rl_V0 E h0
  have H77 : ∀ F, rl_best B (rl_V par ba G) W tip F → wX_chooseTip_77 post (nI F) tn (nI B) (nI tip) (nI a) s.1 s.2.1 cx cy pd sn rc pa hg mi tx wk co ba s.2.2.1 s.2.2.2 sp mn wy := fun F hF => by
    have hF1 := hF.1
    obtain ⟨⟨gF, eF⟩, _⟩ := (rl_V_iff P (by omega)).mp hF.2.1
    unfold wX_chooseTip_77
    exact rl_xgo E X hw NT (Nat.le_refl _) ha hF1 eg ag eF (fun s' sp' mn' wy' h1 h2 => hp F gF s' sp' mn' wy' hF eF h1 h2)
  unfold wpX_chooseTip
  dsimp only
  refine rl_xval hB.2 P X C ht ?_
  cases v : rl_V par ba G tip with
  | false => exact br_t rfl ⟨22, rl_x22 hB.2 P X C hW K ht H77 22 0 0 (by omega) (by omega) (by omega) v0 (fun i hi => by omega) (fun q => by rw [v] at q; cases q)⟩
  | true => exact br_f (by decide) ⟨22, rl_x22 hB.2 P X C hW K ht H77 22 tip 0 (by omega) (by omega) ht v (fun i hi => by omega) (fun _ => Or.inl rfl)⟩
end
end
section
/-! Y's walks: a transaction, a replay -/
def rl_TH (U : Int64) (th : Nat → Int32) : Prop := ∀ c, c < 64 → th c = rl_b01 (rl_bit U c)
def rl_DN (M : Int64) (dn : Nat → Int32) : Prop := ∀ t, t < 16 → dn t = rl_b01 (rl_bit M (2 * t))
theorem rl_nb0 : vp_nar .boolean 0 = 0 := rfl
theorem rl_nb1 : vp_nar .boolean 1 = 1 := rfl
theorem rl_b01_0 {b : Bool} : rl_b01 b = 0 ↔ b = false := by cases b <;> decide
section
variable {tn bn be : Int32} {cx cy pd sn rc pr mi ws tx ba th dn : Nat → Int32} {s : rl_PS} {par H W : Nat → Nat} {G : Nat → Option rl_PS} {T B N a b c t : Nat} {g gp : rl_PS}
theorem rl_TH_mk {U : Int64} (hc : c < 64) (h : rl_TH U th) : rl_TH (U ||| rl_one c) (upd th c 1) := by
  intro j hj
  rw [rl_bor, rl_bone hc]
  by_cases e : j = c
  · subst e
    rw [pk_us, decide_eq_true rfl, Bool.or_true]
    rfl
  · rw [pk_un e, decide_eq_false e, Bool.or_false]
    exact h j hj
theorem rl_TH_sp (h : rl_TW cx cy T) (ht : t < T) (ht' : rl_TH s.1 th) (c : cy t < 0) : rl_TH (rl_spd cx cy s.1 t) (upd th (cx t).toNatClampNeg 0) := by
  intro j hj
  rw [rl_spd_b h ht _ hj, decide_eq_true c, Bool.true_or, Bool.and_true]
  by_cases e : j = (cx t).toNatClampNeg
  · subst e
    rw [pk_us, decide_eq_true rfl, Bool.not_true, Bool.and_false]
    rfl
  · rw [pk_un e, decide_eq_false e, Bool.not_false, Bool.and_true]
    exact ht' j hj
theorem rl_TH_sp2 (h : rl_TW cx cy T) (ht : t < T) (ht' : rl_TH s.1 th) (c : ¬ cy t < 0) : rl_TH (rl_spd cx cy s.1 t) (upd (upd th (cx t).toNatClampNeg 0) (cy t).toNatClampNeg 0) := by
  intro j hj
  rw [rl_spd_b h ht _ hj, decide_eq_false c, Bool.false_or]
  by_cases e2 : j = (cy t).toNatClampNeg
  · subst e2
    rw [pk_us, decide_eq_true rfl, Bool.not_true, Bool.and_false]
    rfl
  · rw [pk_un e2, decide_eq_false e2, Bool.not_false, Bool.and_true]
    by_cases e : j = (cx t).toNatClampNeg
    · subst e
      rw [pk_us, decide_eq_true rfl, Bool.not_true, Bool.and_false]
      rfl
    · rw [pk_un e, decide_eq_false e, Bool.not_false, Bool.and_true]
      exact ht' j hj
theorem rl_DN_b {M : Int64} (hb : 32 ≤ c) (hc : c < 64) (h : rl_DN M dn) : rl_DN (M ||| rl_one c) dn := by
  intro j hj
  have e : ¬ 2 * j = c := by omega
  rw [rl_bor, rl_bone hc, decide_eq_false e, Bool.or_false]
  exact h j hj
theorem rl_DN_1 {M : Int64} (ht : t < 16) (h : rl_DN M dn) : rl_DN (M ||| rl_one (2 * t)) (upd dn t 1) := by
  intro j hj
  rw [rl_bor, rl_bone (by omega)]
  by_cases e : j = t
  · subst e
    rw [pk_us, decide_eq_true rfl, Bool.or_true]
    rfl
  · have e' : ¬ 2 * j = 2 * t := by omega
    rw [pk_un e, decide_eq_false e', Bool.or_false]
    exact h j hj
theorem rl_DN_2 {M : Int64} (ht : t < 16) (h : rl_DN M dn) : rl_DN (M ||| rl_one (2 * t) ||| rl_one (2 * t + 1)) (upd dn t 1) := by
  intro j hj
  have e' : ¬ 2 * j = 2 * t + 1 := by omega
  rw [rl_bor, rl_bone (by omega), decide_eq_false e', Bool.or_false]
  exact rl_DN_1 ht h j hj
theorem rl_ybr {post : SY → Prop} {a o : Int32} (hc : c < 64) (h : post (tn, bn, be, cx, cy, pd, sn, rc, pr, mi, ws, tx, ba, upd th c 1, (rl_mk c a o s).2.2.1, (rl_mk c a o s).2.2.2, dn)) : wpY_bring post (tn, bn, be, cx, cy, pd, sn, rc, pr, mi, ws, tx, ba, th, s.2.2.1, s.2.2.2, dn) (nI c) a o := by
  have hi : vp_in (nI c) 64 := vp_in_nI hc (by decide)
  have e : (nI c).toNatClampNeg = c := nI_clamp (by omega)
  unfold wpY_bring
  dsimp only
  rw [e]
  exact ⟨hi, nm_e ⟨hi, nm_e ⟨hi, nm_e h⟩⟩⟩
theorem rl_ysum {post : Int32 → Prop} (h : rl_TW cx cy T) (ht : t < T) (hp : post (rl_sum cx cy s.2.2.1 t)) : wpY_spends post (tn, bn, be, cx, cy, pd, sn, rc, pr, mi, ws, tx, ba, th, s.2.2.1, s.2.2.2, dn) (nI t) := by
  have hT := h.1
  have hi : vp_in (nI t) 16 := vp_in_nI (by omega) (by decide)
  have e : (nI t).toNatClampNeg = t := nI_clamp (by omega)
  obtain ⟨hx, ex⟩ := rl_cx h ht
  have ix : vp_in (cx t) 64 := by rw [ex]; exact vp_in_nI hx (by decide)
  unfold wpY_spends
  dsimp only
  rw [e]
  unfold rl_sum at hp
  rcases rl_cy h ht with c | ⟨c, hy, ey⟩
  · rw [if_pos c] at hp
    exact ⟨hi, ix, nm_e ⟨hi, br_t c hp⟩⟩
  · rw [if_neg c] at hp
    have iy : vp_in (cy t) 64 := by rw [ey]; exact vp_in_nI hy (by decide)
    exact ⟨hi, ix, nm_e ⟨hi, br_f c ⟨hi, iy, nm_e hp⟩⟩⟩
theorem rl_y65 {post : Int32 → Prop} (h : rl_TW cx cy T) (ht : t < T) (hp : post (rl_b01 (!decide (rl_sum cx cy s.2.2.1 t < pd t)))) : wY_fitsNow_65 post (nI t) tn bn be cx cy pd sn rc pr mi ws tx ba th s.2.2.1 s.2.2.2 dn := by
  have hT := h.1
  have hi : vp_in (nI t) 16 := vp_in_nI (by omega) (by decide)
  have e : (nI t).toNatClampNeg = t := nI_clamp (by omega)
  unfold wY_fitsNow_65
  rw [e]
  refine rl_ysum h ht ⟨hi, ?_⟩
  by_cases u : rl_sum cx cy s.2.2.1 t < pd t
  · rw [decide_eq_true u] at hp
    exact br_t u hp
  · rw [decide_eq_false u] at hp
    exact br_f u hp
theorem rl_yfit {post : Int32 → Prop} (h : rl_TW cx cy T) (ht : t < T) (w : rl_WF s) (hth : rl_TH s.1 th) (hdn : rl_DN s.2.1 dn) (hp : post (rl_b01 (rl_fit cx cy pd s t))) : wpY_fitsNow post (tn, bn, be, cx, cy, pd, sn, rc, pr, mi, ws, tx, ba, th, s.2.2.1, s.2.2.2, dn) (nI t) := by
  have hT := h.1
  have hi : vp_in (nI t) 16 := vp_in_nI (by omega) (by decide)
  have e : (nI t).toNatClampNeg = t := nI_clamp (by omega)
  obtain ⟨hx, ex⟩ := rl_cx h ht
  have ix : vp_in (cx t) 64 := by rw [ex]; exact vp_in_nI hx (by decide)
  have hz : rl_fit cx cy pd s t = false → post 0 := fun z => by rw [z] at hp; exact hp
  unfold wpY_fitsNow
  dsimp only
  rw [e, hdn t (by omega), hth _ hx]
  refine ⟨hi, ?_⟩
  cases m : rl_bit s.2.1 (2 * t) with
  | true => exact br_f (by decide) (hz (rl_bk fun z => by rw [(rl_fit_iff.mp z).2.2.1] at m; cases m))
  | false =>
    have m1 : rl_bit s.2.1 (2 * t + 1) = false := rl_bk fun z => by
      rw [w.2 t (by omega) z] at m
      cases m
    refine br_t rfl ⟨hi, ix, ?_⟩
    cases qx : rl_bit s.1 (cx t).toNatClampNeg with
    | false => exact br_t rfl (hz (rl_bk fun z => by rw [(rl_fit_iff.mp z).1] at qx; cases qx))
    | true =>
      refine br_f (by decide) ⟨hi, hi, ?_⟩
      by_cases u : cx t = cy t
      · refine br_t u (hz (rl_bk fun z => ?_))
        rcases (rl_fit_iff.mp z).2.1 with q | q
        · rw [← u, ex] at q
          exact nI_pos (by omega) q
        · exact q.1 u.symm
      · refine br_f u ⟨hi, ?_⟩
        rcases rl_cy h ht with c | ⟨c, hy, ey⟩
        · refine br_t c (rl_y65 h ht ?_)
          have ef : rl_fit cx cy pd s t = !decide (rl_sum cx cy s.2.2.1 t < pd t) := by
            unfold rl_fit rl_gd rl_f2
            rw [qx, m, m1, decide_eq_true c]
            rfl
          rw [ef] at hp
          exact hp
        · have iy : vp_in (cy t) 64 := by rw [ey]; exact vp_in_nI hy (by decide)
          refine br_f c ⟨hi, iy, ?_⟩
          rw [hth _ hy]
          cases qy : rl_bit s.1 (cy t).toNatClampNeg with
          | false =>
            refine br_t rfl (hz (rl_bk fun z => ?_))
            rcases (rl_fit_iff.mp z).2.1 with q | q
            · exact c q
            · rw [q.2] at qy
              cases qy
          | true =>
            refine br_f (by decide) (rl_y65 h ht ?_)
            have u' : ¬ cy t = cx t := fun z => u z.symm
            have ef : rl_fit cx cy pd s t = !decide (rl_sum cx cy s.2.2.1 t < pd t) := by
              unfold rl_fit rl_gd rl_f2
              rw [qx, m, m1, decide_eq_false c, decide_eq_false u', qy]
              rfl
            rw [ef] at hp
            exact hp
theorem rl_y62 {post : Int32 → SY → Prop} (ht : t < 16) {z : Int32} (hth : rl_TH s.1 th) (hdn : rl_DN s.2.1 dn) (hp : ∀ th' dn' s', s' = (if z ≤ 0 then rl_mk (2 * t) (pd t) (rc t) s else rl_mk (2 * t + 1) z (sn t) (rl_mk (2 * t) (pd t) (rc t) s)) → rl_TH s'.1 th' → rl_DN s'.2.1 dn' → post 1 (tn, bn, be, cx, cy, pd, sn, rc, pr, mi, ws, tx, ba, th', s'.2.2.1, s'.2.2.2, dn')) : wY_carryOut_62 post (nI t) z tn bn be cx cy pd sn rc pr mi ws tx ba th s.2.2.1 s.2.2.2 dn := by
  have hi : vp_in (nI t) 16 := vp_in_nI (by omega) (by decide)
  have e : (nI t).toNatClampNeg = t := nI_clamp (by omega)
  unfold wY_carryOut_62
  rw [e, rl_2t, nI_1]
  refine ⟨hi, hi, rl_ybr (by omega) ?_⟩
  by_cases q : z ≤ 0
  · refine br_t q ⟨hi, nm_e ?_⟩
    exact hp _ _ _ (if_pos q).symm (rl_TH_mk (by omega) hth) (rl_DN_1 ht hdn)
  · refine br_f q ⟨hi, rl_ybr (s := rl_mk (2 * t) (pd t) (rc t) s) (by omega) ⟨hi, nm_e ?_⟩⟩
    exact hp _ _ _ (if_neg q).symm (rl_TH_mk (U := s.1 ||| rl_one (2 * t)) (by omega) (rl_TH_mk (by omega) hth)) (rl_DN_2 ht hdn)
theorem rl_ycar {post : Int32 → SY → Prop} {x : Int32} (h : rl_TW cx cy T) (w : rl_WF s) (hx : x = -1 ∨ ∃ k, k < T ∧ x = nI k) (hth : rl_TH s.1 th) (hdn : rl_DN s.2.1 dn) (hn : rl_car cx cy pd sn rc s x = none → post 0 (tn, bn, be, cx, cy, pd, sn, rc, pr, mi, ws, tx, ba, th, s.2.2.1, s.2.2.2, dn)) (hs : ∀ s' th' dn', rl_car cx cy pd sn rc s x = some s' → rl_TH s'.1 th' → rl_DN s'.2.1 dn' → post 1 (tn, bn, be, cx, cy, pd, sn, rc, pr, mi, ws, tx, ba, th', s'.2.2.1, s'.2.2.2, dn')) : wpY_carryOut post (tn, bn, be, cx, cy, pd, sn, rc, pr, mi, ws, tx, ba, th, s.2.2.1, s.2.2.2, dn) x := by
  have hT := h.1
  rcases hx with hx | ⟨k, hk, hx⟩
  · subst hx
    unfold wpY_carryOut
    dsimp only
    exact br_f (by decide) (hs s th dn rl_car_n hth hdn)
  · subst hx
    have hi : vp_in (nI k) 16 := vp_in_nI (by omega) (by decide)
    have e : (nI k).toNatClampNeg = k := nI_clamp (by omega)
    have ec : rl_car cx cy pd sn rc s (nI k) = _ := rl_car_k (by omega)
    obtain ⟨hx, ex⟩ := rl_cx h hk
    have ix : vp_in (cx k) 64 := by rw [ex]; exact vp_in_nI hx (by decide)
    unfold wpY_carryOut
    dsimp only
    rw [e]
    refine br_t (nI_pos' (by omega)) (rl_yfit h hk w hth hdn ?_)
    by_cases f : rl_fit cx cy pd s k = true
    · rw [if_pos f] at ec
      rw [f]
      have hs' : ∀ th' dn' s', s' = rl_app cx cy pd sn rc s k → rl_TH s'.1 th' → rl_DN s'.2.1 dn' → post 1 (tn, bn, be, cx, cy, pd, sn, rc, pr, mi, ws, tx, ba, th', s'.2.2.1, s'.2.2.2, dn') := fun th' dn' s' es h1 h2 => hs s' th' dn' (by rw [ec, es]) h1 h2
      unfold rl_app rl_ap0 rl_rest at hs'
      refine br_f (by decide) (rl_ysum h hk ⟨hi, nm_e ⟨hi, ix, nm_e ⟨hi, ?_⟩⟩⟩)
      rcases rl_cy h hk with c | ⟨c, hy, ey⟩
      · exact br_t c (rl_y62 (s := rl_sp cx cy s k) (by omega) (rl_TH_sp h hk hth c) hdn hs')
      · have iy : vp_in (cy k) 64 := by rw [ey]; exact vp_in_nI hy (by decide)
        exact br_f c ⟨hi, iy, nm_e (rl_y62 (s := rl_sp cx cy s k) (by omega) (rl_TH_sp2 h hk hth c) hdn hs')⟩
    · rw [if_neg f] at ec
      rw [rl_bk f]
      exact br_t rfl (hn ec)
theorem rl_yon_l {post : Int32 → Prop} (hB : B ≤ 21) (P : rl_PW par) (R : ∀ i, i < B → pr i = nI (par i)) (ha : a < B) : ∀ m n k b, k + m = 21 → m < n → b < B → post (rl_b01 (rl_anF par m a b)) → wY_onBranch_5 post (nI a) tn bn be cx cy pd sn rc pr mi ws tx ba th s.2.2.1 s.2.2.2 dn n (nI b) (nI k) := by
  intro m
  induction m with
  | zero =>
    intro n k b hk hn hb hp
    obtain ⟨n, rfl⟩ : ∃ q, n = q + 1 := ⟨n - 1, by omega⟩
    rw [wY_onBranch_5]
    dsimp only
    exact br_t (nI_le (a := 21) (by omega) (by omega)) hp
  | succ m ih =>
    intro n k b hk hn hb hp
    obtain ⟨n, rfl⟩ : ∃ q, n = q + 1 := ⟨n - 1, by omega⟩
    have e : (nI b).toNatClampNeg = b := nI_clamp (by omega)
    have ev : rl_anF par (m + 1) a b = (decide (b = a) || rl_anF par m a (par b)) := rfl
    rw [ev] at hp
    rw [wY_onBranch_5]
    dsimp only
    rw [e]
    refine br_f (nI_ge (b := 21) (by omega) (by decide)) ?_
    by_cases q : b = a
    · rw [decide_eq_true q] at hp
      exact br_t (congrArg nI q) hp
    · rw [decide_eq_false q] at hp
      have hpb : par b ≤ b := by
        rcases Nat.eq_zero_or_pos b with z | z
        · subst z; rw [P.1]; omega
        · exact Nat.le_of_lt (P.2 b z)
      exact br_f (fun z => q ((nI_eq (by omega) (by omega)).mp z)) ⟨vp_in_nI (by omega) (by decide), nm_r (R b hb) (nm_r (nI_1 k) (ih n (k + 1) (par b) (by omega) (by omega) (by omega) hp))⟩
theorem rl_yon {post : Int32 → Prop} (hB : B ≤ 21) (P : rl_PW par) (R : ∀ i, i < B → pr i = nI (par i)) (ha : a < B) (hb : b < B) (hp : post (rl_b01 (rl_an par a b))) : wpY_onBranch post (tn, bn, be, cx, cy, pd, sn, rc, pr, mi, ws, tx, ba, th, s.2.2.1, s.2.2.2, dn) (nI a) (nI b) := by
  rw [← rl_anF_st P a b 21 (by omega)] at hp
  exact ⟨22, rl_yon_l hB P R ha 21 22 0 b rfl (by decide) hb hp⟩
end
end
section
/-! Y's walks: replay, validity, totals, the choice -/
def rl_RI (par : Nat → Nat) (G : Nat → Option rl_PS) (ba : Nat → Int32) (t j : Nat) (s : rl_PS) : Prop := rl_WF s ∧ (j = 0 → rl_ag rl_z s) ∧ (0 < j → (∃ g, G (rl_lst par t j) = some g ∧ rl_ag g s) ∧ ∀ a, rl_an par a (rl_lst par t j) = true → ba a = 0)
section
variable {tn bn be : Int32} {cx cy pd sn rc pr mi ws tx ba th dn : Nat → Int32} {s : rl_PS} {par H W : Nat → Nat} {G : Nat → Option rl_PS} {T B N a b c t j : Nat} {g gp s' : rl_PS}
theorem rl_RI_o (E : rl_EN T B par G cx cy pd sn rc mi tx) (hj : j < B) (q : rl_an par j t = true) (I : rl_RI par G ba t j s) : rl_oa (G j) (rl_stp cx cy pd sn rc mi tx s j) := by
  have P := E.2.2.2.1
  have hB := E.1
  by_cases z : j = 0
  · subst z
    rw [E.2.2.2.2.2.1]
    exact rl_stp_ag (by decide) E.2.1 rl_z_wf (rl_tx0 E hj) (rl_tx1 E hj) (I.2.1 rfl)
  · obtain ⟨⟨g, eg, ag⟩, _⟩ := I.2.2 (by omega)
    rw [rl_lst_par P (by omega) q] at eg
    rw [rl_G_dn E (by omega) hj eg]
    exact rl_stp_ag (by omega) E.2.1 (rl_G_fr E (by omega) hj eg).1 (rl_tx0 E hj) (rl_tx1 E hj) ag
theorem rl_RI_y (E : rl_EN T B par G cx cy pd sn rc mi tx) (hj : j < B) (q : rl_an par j t = true) (I : rl_RI par G ba t j s) (hb : ba j = 0) (eg : G j = some g) (ag : rl_ag g s') : rl_RI par G ba t (j + 1) s' := by
  have P := E.2.2.2.1
  refine ⟨rl_ag_wf ag (rl_G_p E j hj g eg).1, fun z => by omega, fun _ => ?_⟩
  rw [rl_lst_y q]
  refine ⟨⟨g, eg, ag⟩, fun a h => ?_⟩
  by_cases z : j = 0
  · subst z
    rw [rl_an_0 P, decide_eq_true_eq] at h
    rw [← h]
    exact hb
  · rcases (rl_an_i P (by omega)).mp h with r | r
    · rw [← r]; exact hb
    · have k := (I.2.2 (by omega)).2
      rw [rl_lst_par P (by omega) q] at k
      exact k a r
theorem rl_RI_n (P : rl_PW par) (q : ¬ rl_an par j t = true) (I : rl_RI par G ba t j s) : rl_RI par G ba t (j + 1) s := by
  have hj : 0 < j := by
    rcases Nat.eq_zero_or_pos j with z | z
    · subst z; exact absurd (rl_an_z P t) q
    · exact z
  refine ⟨I.1, fun z => by omega, fun _ => ?_⟩
  rw [rl_lst_n q]
  exact I.2.2 hj
theorem rl_Vn (E : rl_EN T B par G cx cy pd sn rc mi tx) (ht : t < B) (q : rl_an par j t = true) (e : G j = none) : rl_V par ba G t = false := rl_bk fun v => by
  have hB := E.1
  obtain ⟨⟨g, eg⟩, _⟩ := (rl_V_iff E.2.2.2.1 (by omega)).mp v
  obtain ⟨ga, ea, _⟩ := rl_G_an E t ht q g eg
  rw [e] at ea
  cases ea
theorem rl_y44 {post : Int32 → SY → Prop} (E : rl_EN T B par G cx cy pd sn rc mi tx) (R : ∀ i, i < B → pr i = nI (par i)) (ht : t < B) (hF : rl_V par ba G t = false → ∀ th am ow dn, post 0 (tn, bn, be, cx, cy, pd, sn, rc, pr, mi, ws, tx, ba, th, am, ow, dn)) (hT : ∀ s' th' dn' g, rl_V par ba G t = true → G t = some g → rl_ag g s' → rl_TH s'.1 th' → rl_DN s'.2.1 dn' → post 1 (tn, bn, be, cx, cy, pd, sn, rc, pr, mi, ws, tx, ba, th', s'.2.2.1, s'.2.2.2, dn')) : ∀ n j (s : rl_PS) (th dn : Nat → Int32), t + 1 - j < n → j ≤ t + 1 → rl_RI par G ba t j s → rl_TH s.1 th → rl_DN s.2.1 dn → wY_replay_44 post (nI t) n (nI j) tn bn be cx cy pd sn rc pr mi ws tx ba th s.2.2.1 s.2.2.2 dn := by
  have P := E.2.2.2.1
  have hB := E.1
  intro n
  induction n with
  | zero => intro j s th dn h; omega
  | succ n ih =>
    intro j s th dn hn hj I hth hdn
    have ej : (nI j).toNatClampNeg = j := nI_clamp (by omega)
    have e2 : (nI (j * 2)).toNatClampNeg = j * 2 := nI_clamp (by omega)
    have e3 : (nI (j * 2 + 1)).toNatClampNeg = j * 2 + 1 := nI_clamp (by omega)
    rw [wY_replay_44]
    dsimp only
    rw [rl_t2, nI_1 (j * 2), ej, e2, e3, rl_32]
    by_cases z : j = t + 1
    · subst z
      refine br_t (nI_lt (by omega) (by omega)) ?_
      obtain ⟨⟨g, eg, ag⟩, hb⟩ := I.2.2 (by omega)
      rw [rl_lst_e P t _ (by omega)] at eg hb
      exact hT s th dn g ((rl_V_iff P (by omega)).mpr ⟨⟨g, eg⟩, hb⟩) eg ag hth hdn
    · refine br_f (nI_nlt (by omega) (by omega)) (rl_yon hB.2 P R (by omega) ht ?_)
      cases q : rl_an par j t with
      | false => exact br_t rfl (nm_r (nI_1 j) (ih (j + 1) s th dn (by omega) (by omega) (rl_RI_n P (by rw [q]; decide) I) hth hdn))
      | true =>
        have hi : vp_in (nI j) 21 := vp_in_nI (by omega) (by decide)
        refine br_f (by decide) ⟨hi, ?_⟩
        by_cases hb : ba j = 0
        · have w0 : rl_WF (rl_mk (32 + j) 50 (mi j) s) := rl_mkb_wf (by omega) I.1
          have O := rl_RI_o E (by omega) q I
          have h0 := rl_tx0 E (b := j) (by omega)
          have h1 := rl_tx1 E (b := j) (by omega)
          refine br_t hb ⟨hi, rl_ybr (by omega) ⟨vp_in_nI (by omega) (by decide), ?_⟩⟩
          refine rl_ycar (s := rl_mk (32 + j) 50 (mi j) s) E.2.1 w0 h0 (rl_TH_mk (by omega) hth) (rl_DN_b (by omega) (by omega) hdn) (fun e0 => ?_) (fun s1 th1 dn1 e0 t1 d1 => ?_)
          · refine br_t rfl (hF ?_ _ _ _ _)
            have est : rl_stp cx cy pd sn rc mi tx s j = none := by
              unfold rl_stp
              rw [e0]
              rfl
            rcases O with ⟨o, _⟩ | ⟨r, r', _, o, _⟩
            · exact rl_Vn E ht q o
            · rw [est] at o
              cases o
          · have est : rl_stp cx cy pd sn rc mi tx s j = rl_car cx cy pd sn rc s1 (tx (j * 2 + 1)) := by
              unfold rl_stp
              rw [e0]
              rfl
            refine br_f (by decide) ⟨vp_in_nI (by omega) (by decide), ?_⟩
            refine rl_ycar (s := s1) E.2.1 (rl_car_p E.2.1 w0 h0 e0).1 h1 t1 d1 (fun e1 => ?_) (fun s2 th2 dn2 e1 t2 d2 => ?_)
            · refine br_t rfl (hF ?_ _ _ _ _)
              rcases O with ⟨o, _⟩ | ⟨r, r', _, o, _⟩
              · exact rl_Vn E ht q o
              · rw [est, e1] at o
                cases o
            · refine br_f (by decide) (nm_r (nI_1 j) (ih (j + 1) s2 th2 dn2 (by omega) (by omega) ?_ t2 d2))
              rcases O with ⟨_, o⟩ | ⟨r, r', o', o, ag⟩
              · rw [est, e1] at o
                cases o
              · rw [est, e1] at o
                cases o
                exact rl_RI_y E (by omega) q I hb o' ag
        · exact br_f hb (hF (rl_bk fun v => hb (((rl_V_iff P (by omega)).mp v).2 j q)) _ _ _ _)
theorem rl_y23 {post : Int32 → SY → Prop} {x1 : Int32} (hp : ∀ dn', (∀ t, t < 16 → dn' t = 0) → ∃ n44, wY_replay_44 post x1 n44 0 tn bn be cx cy pd sn rc pr mi ws tx ba th s.2.2.1 s.2.2.2 dn') : ∀ n j (dn : Nat → Int32), 16 - j < n → j ≤ 16 → (∀ t, t < j → dn t = 0) → wY_replay_23 post x1 tn bn be n (nI j) cx cy pd sn rc pr mi ws tx ba th s.2.2.1 s.2.2.2 dn := by
  intro n
  induction n with
  | zero => intro j dn h; omega
  | succ n ih =>
    intro j dn hn hj I
    have ej : (nI j).toNatClampNeg = j := nI_clamp (by omega)
    rw [wY_replay_23]
    dsimp only
    rw [ej]
    by_cases z : j = 16
    · subst z
      exact br_t (by decide) (hp dn I)
    · refine br_f (nI_ge (b := 16) (by omega) (by decide)) ⟨vp_in_nI (by omega) (by decide), nm_e (nm_r (nI_1 j) (ih (j + 1) _ (by omega) (by omega) (fun t ht => ?_)))⟩
      by_cases y : t = j
      · subst y
        rw [pk_us]
        rfl
      · rw [pk_un y]
        exact I t (by omega)
theorem rl_y2 {post : Int32 → SY → Prop} {x1 : Int32} (hp : ∀ th', (∀ t, t < 64 → th' t = 0) → ∃ n23, wY_replay_23 post x1 tn bn be n23 0 cx cy pd sn rc pr mi ws tx ba th' s.2.2.1 s.2.2.2 dn) : ∀ n j (th : Nat → Int32), 64 - j < n → j ≤ 64 → (∀ t, t < j → th t = 0) → wY_replay_2 post x1 tn bn be n (nI j) cx cy pd sn rc pr mi ws tx ba th s.2.2.1 s.2.2.2 dn := by
  intro n
  induction n with
  | zero => intro j th h; omega
  | succ n ih =>
    intro j th hn hj I
    have ej : (nI j).toNatClampNeg = j := nI_clamp (by omega)
    rw [wY_replay_2]
    dsimp only
    rw [ej]
    by_cases z : j = 64
    · subst z
      exact br_t (by decide) (hp th I)
    · refine br_f (nI_ge (b := 64) (by omega) (by decide)) ⟨vp_in_nI (by omega) (by decide), nm_e (nm_r (nI_1 j) (ih (j + 1) _ (by omega) (by omega) (fun t ht => ?_)))⟩
      by_cases y : t = j
      · subst y
        rw [pk_us]
        rfl
      · rw [pk_un y]
        exact I t (by omega)
theorem rl_yrep {post : Int32 → SY → Prop} (E : rl_EN T B par G cx cy pd sn rc mi tx) (R : ∀ i, i < B → pr i = nI (par i)) (ht : t < B) (hF : rl_V par ba G t = false → ∀ th am ow dn, post 0 (tn, bn, be, cx, cy, pd, sn, rc, pr, mi, ws, tx, ba, th, am, ow, dn)) (hT : ∀ s' th' dn' g, rl_V par ba G t = true → G t = some g → rl_ag g s' → rl_TH s'.1 th' → rl_DN s'.2.1 dn' → post 1 (tn, bn, be, cx, cy, pd, sn, rc, pr, mi, ws, tx, ba, th', s'.2.2.1, s'.2.2.2, dn')) : wpY_replay post (tn, bn, be, cx, cy, pd, sn, rc, pr, mi, ws, tx, ba, th, s.2.2.1, s.2.2.2, dn) (nI t) := by
  refine ⟨65, rl_y2 (fun th' h => ⟨17, rl_y23 (fun dn' h' => ⟨t + 2, ?_⟩) 17 0 dn (by omega) (by omega) (fun i hi => by omega)⟩) 65 0 th (by omega) (by omega) (fun i hi => by omega)⟩
  refine rl_y44 E R ht hF hT (t + 2) 0 (0, 0, s.2.2) th' dn' (by omega) (by omega) ⟨⟨fun c _ q => ?_, fun t _ q => ?_⟩, fun _ => ⟨rfl, rfl, fun c _ q => ?_⟩, fun q => by omega⟩ (fun c hc => ?_) (fun i hi => ?_)
  · rw [show rl_bit ((0, 0, s.2.2) : rl_PS).1 c = false from rl_b0 c] at q
    cases q
  · rw [show rl_bit ((0, 0, s.2.2) : rl_PS).2.1 (2 * t + 1) = false from rl_b0 _] at q
    cases q
  · rw [show rl_bit rl_z.2.1 c = false from rl_b0 c] at q
    cases q
  · rw [h c hc, show rl_bit ((0, 0, s.2.2) : rl_PS).1 c = false from rl_b0 c]
    rfl
  · rw [h' i hi, show rl_bit ((0, 0, s.2.2) : rl_PS).2.1 (2 * i) = false from rl_b0 _]
    rfl
theorem rl_yisb {post : Int32 → Prop} (hB : B ≤ 21) (hb : b < B) (hp : post 1) : wpY_isBlock post (tn, nI B, be, cx, cy, pd, sn, rc, pr, mi, ws, tx, ba, th, s.2.2.1, s.2.2.2, dn) (nI b) := by
  unfold wpY_isBlock
  dsimp only
  exact br_f (nI_pos (by omega)) (br_f (nI_ge hb (by omega)) hp)
theorem rl_yisn {post : Int32 → Prop} {x : Int32} (hx : x < 0 ∨ nI B ≤ x) (hp : post 0) : wpY_isBlock post (tn, nI B, be, cx, cy, pd, sn, rc, pr, mi, ws, tx, ba, th, s.2.2.1, s.2.2.2, dn) x := by
  unfold wpY_isBlock
  dsimp only
  by_cases h0 : x < 0
  · exact br_t h0 hp
  · exact br_f h0 (br_t (hx.resolve_left h0) hp)
theorem rl_yval {post : Int32 → SY → Prop} (E : rl_EN T B par G cx cy pd sn rc mi tx) (R : ∀ i, i < B → pr i = nI (par i)) (hb : b < B) (hp : ∀ th am ow dn, post (rl_b01 (rl_V par ba G b)) (tn, nI B, be, cx, cy, pd, sn, rc, pr, mi, ws, tx, ba, th, am, ow, dn)) : wpY_valid post (tn, nI B, be, cx, cy, pd, sn, rc, pr, mi, ws, tx, ba, th, s.2.2.1, s.2.2.2, dn) (nI b) := by
  have hB := E.1
  unfold wpY_valid
  dsimp only
  refine rl_yisb hB.2 hb (br_f (by decide) (rl_yrep E R hb (fun v th am ow dn => ?_) (fun s' th' dn' g v eg ag h1 h2 => ?_)))
  · have q := hp th am ow dn
    rw [v] at q
    exact br_t rfl q
  · have q := hp th' s'.2.2.1 s'.2.2.2 dn'
    rw [v] at q
    exact br_f (by decide) q
theorem rl_ytot_l {post : Int32 → Prop} (E : rl_EN T B par G cx cy pd sn rc mi tx) (R : ∀ i, i < B → pr i = nI (par i)) (hW : rl_WW B par W ws) (hb : b < B) (hp : post (nI (W b))) : ∀ n j x, b + 1 - j < n → j ≤ b + 1 → (j = 0 → x = 0) → (0 < j → x = W (rl_lst par b j)) → wY_total_15 post (nI b) tn bn be cx cy pd sn rc pr mi ws tx ba th s.2.2.1 s.2.2.2 dn n (nI x) (nI j) := by
  have P := E.2.2.2.1
  have hB := E.1
  intro n
  induction n with
  | zero => intro j x h; omega
  | succ n ih =>
    intro j x hn hj i0 i1
    have ej : (nI j).toNatClampNeg = j := nI_clamp (by omega)
    rw [wY_total_15]
    dsimp only
    rw [ej]
    by_cases z : j = b + 1
    · subst z
      refine br_t (nI_lt (by omega) (by omega)) ?_
      rw [i1 (by omega), rl_lst_e P b _ (by omega)]
      exact hp
    · refine br_f (nI_nlt (by omega) (by omega)) (rl_yon hB.2 P R (by omega) hb ?_)
      cases q : rl_an par j b with
      | false =>
        have q' : ¬ rl_an par j b = true := by rw [q]; decide
        have h0 : 0 < j := by
          rcases Nat.eq_zero_or_pos j with y | y
          · subst y; exact absurd (rl_an_z P b) q'
          · exact y
        refine br_t rfl (nm_r (nI_1 j) (ih (j + 1) x (by omega) (by omega) (fun y => by omega) (fun _ => ?_)))
        rw [rl_lst_n q']
        exact i1 h0
      | true =>
        refine br_f (by decide) ⟨vp_in_nI (by omega) (by decide), ?_⟩
        have ew : nI x + ws j = nI (W j) := by
          by_cases y : j = 0
          · subst y
            rw [i0 rfl, hW.1.2, hW.1.1]
            rfl
          · have hw := hW.2 j (by omega) (by omega)
            rw [i1 (by omega), rl_lst_par P (by omega) q, hw.2.2, nI_add]
            exact congrArg nI (by omega)
        exact nm_r ew (nm_r (nI_1 j) (ih (j + 1) (W j) (by omega) (by omega) (fun y => by omega) (fun _ => by rw [rl_lst_y q])))
theorem rl_ytot {post : Int32 → Prop} (E : rl_EN T B par G cx cy pd sn rc mi tx) (R : ∀ i, i < B → pr i = nI (par i)) (hW : rl_WW B par W ws) (hb : b < B) (hp : post (nI (W b))) : wpY_total post (tn, nI B, be, cx, cy, pd, sn, rc, pr, mi, ws, tx, ba, th, s.2.2.1, s.2.2.2, dn) (nI b) := by
  have hB := E.1
  unfold wpY_total
  dsimp only
  exact rl_yisb hB.2 hb (br_f (by decide) ⟨b + 2, rl_ytot_l E R hW hb hp (b + 2) 0 0 (by omega) (by omega) (fun _ => rfl) (fun q => by omega)⟩)
theorem rl_y6 {post : SY → Prop} {tip : Nat} (E : rl_EN T B par G cx cy pd sn rc mi tx) (R : ∀ i, i < B → pr i = nI (par i)) (hW : rl_WW B par W ws) (ht : tip < B) (hp : ∀ F th am ow dn, rl_best B (rl_V par ba G) W tip F → post (tn, nI B, nI F, cx, cy, pd, sn, rc, pr, mi, ws, tx, ba, th, am, ow, dn)) : ∀ n m j (s : rl_PS) (th dn : Nat → Int32), B - j < n → j ≤ B → m < B → rl_V par ba G m = true → (∀ i, i < j → rl_V par ba G i = true → W i ≤ W m) → (∀ i, i < m → rl_V par ba G i = true → W i < W m) → wY_choose_6 post n (nI (W m)) (nI m) (nI j) tn (nI B) (nI tip) cx cy pd sn rc pr mi ws tx ba th s.2.2.1 s.2.2.2 dn := by
  have P := E.2.2.2.1
  have hB := E.1
  intro n
  induction n with
  | zero => intro m j s th dn h; omega
  | succ n ih =>
    intro m j s th dn hn hj hm vm mx lm
    have l2 := rl_W_le P hW m hm
    rw [wY_choose_6]
    dsimp only
    by_cases z : j = B
    · subst z
      refine br_t (nI_le (by omega) (by omega)) (rl_yval E R ht (fun th am ow dn => ?_))
      have l1 := rl_W_le P hW tip ht
      cases v : rl_V par ba G tip with
      | false => exact br_t rfl (hp m th am ow dn ⟨hm, vm, mx, Or.inr ⟨(fun q => nomatch (v.symm.trans q.1)), lm⟩⟩)
      | true =>
        refine br_f (by decide) (rl_ytot (s := (0, 0, am, ow)) E R hW ht ?_)
        by_cases q : W m ≤ W tip
        · exact br_t (nI_le q (by omega)) (hp tip th am ow dn ⟨ht, v, fun b hb vb => Nat.le_trans (mx b hb vb) q, Or.inl rfl⟩)
        · exact br_f (nI_ge (by omega) (by omega)) (hp m th am ow dn ⟨hm, vm, mx, Or.inr ⟨fun r => q r.2, lm⟩⟩)
    · have l1 := rl_W_le P hW j (by omega)
      refine br_f (nI_ge (by omega) (by omega)) (rl_yval E R (by omega) (fun th am ow dn => ?_))
      cases v : rl_V par ba G j with
      | false =>
        refine br_t rfl (nm_r (nI_1 j) (ih m (j + 1) (0, 0, am, ow) th dn (by omega) (by omega) hm vm (fun i hi vi => ?_) lm))
        by_cases y : i = j
        · subst y; rw [v] at vi; cases vi
        · exact mx i (by omega) vi
      | true =>
        refine br_f (by decide) (rl_ytot (s := (0, 0, am, ow)) E R hW (by omega) ?_)
        by_cases q : W j ≤ W m
        · refine br_t (nI_le q (by omega)) (nm_r (nI_1 j) (ih m (j + 1) (0, 0, am, ow) th dn (by omega) (by omega) hm vm (fun i hi vi => ?_) lm))
          by_cases y : i = j
          · subst y; exact q
          · exact mx i (by omega) vi
        · refine br_f (nI_ge (by omega) (by omega)) (rl_ytot (s := (0, 0, am, ow)) E R hW (by omega) ?_)
          refine nm_r (nI_1 j) (ih j (j + 1) (0, 0, am, ow) th dn (by omega) (by omega) (by omega) v (fun i hi vi => ?_) (fun i hi vi => ?_))
          · by_cases y : i = j
            · subst y; exact Nat.le_refl _
            · have := mx i (by omega) vi
              omega
          · have := mx i (by omega) vi
            omega
theorem rl_ych {post : SY → Prop} {tip : Nat} (E : rl_EN T B par G cx cy pd sn rc mi tx) (R : ∀ i, i < B → pr i = nI (par i)) (hW : rl_WW B par W ws) (h0 : ba 0 = 0) (ht : tip < B) (hp : ∀ F th am ow dn, rl_best B (rl_V par ba G) W tip F → post (tn, nI B, nI F, cx, cy, pd, sn, rc, pr, mi, ws, tx, ba, th, am, ow, dn)) : wpY_choose post (tn, nI B, nI tip, cx, cy, pd, sn, rc, pr, mi, ws, tx, ba, th, s.2.2.1, s.2.2.2, dn) := by
  have hB := E.1
  have e := hW.1.1
  have q := rl_y6 (post := post) E R hW ht hp 22 0 0 s th dn (by omega) (by omega) (by omega) (rl_V0 E h0) (fun i hi => by omega) (fun i hi => by omega)
  rw [e] at q
  exact ⟨22, q⟩
end
end
section
/-! the relation -/
def rl_R0 (T B tip : Nat) (par H W : Nat → Nat) (G : Nat → Option rl_PS) (cx cy pd sn rc mi tx pa hg wk co ba : Nat → Int32) (sp mn : Nat → Int64) (pr ws : Nat → Int32) : Prop :=
  rl_EN T B par G cx cy pd sn rc mi tx ∧ rl_HW B par H ∧ rl_WW B par W ws ∧ rl_XE B par H pa hg ∧ (∀ i, i < B → wk i = nI (W i)) ∧ (∀ i, i < B → co i = rl_b01 (G i).isSome) ∧ (∀ i, i < B → pr i = nI (par i)) ∧ (ba 0 = 0 ∧ ∀ i, B ≤ i → ba i = 0) ∧ tip < B ∧ rl_NT B par G sp mn
def rl_R (T B tip : Nat) (par H W : Nat → Nat) (G : Nat → Option rl_PS) (s : rl_PS) (cx cy pd sn rc mi tx pa hg wk co ba : Nat → Int32) (sp mn : Nat → Int64) (pr ws : Nat → Int32) : Prop :=
  rl_R0 T B tip par H W G cx cy pd sn rc mi tx pa hg wk co ba sp mn pr ws ∧ rl_V par ba G tip = true ∧ ∃ g, G tip = some g ∧ rl_ag g s
/-- the relation at the head of a turn -/
def i_Rel (k : Nat) (u : SX) (v : SY) : Prop := match u, v with
  | (tn, bn, tp, ap, un, md, cx, cy, pd, sn, rc, pa, hg, mi, tx, wk, co, ba, am, ow, sp, mn, wy), (tn', bn', be, cx', cy', pd', sn', rc', pr, mi', ws, tx', ba', th, am', ow', dn) =>
    (tn' = tn ∧ bn' = bn ∧ be = tp ∧ ap = tp ∧ cx' = cx ∧ cy' = cy ∧ pd' = pd ∧ sn' = sn ∧ rc' = rc ∧ mi' = mi ∧ tx' = tx ∧ ba' = ba) ∧ ∃ (T B tip : Nat) (par H W : Nat → Nat) (G : Nat → Option rl_PS), tn = nI T ∧ bn = nI B ∧ tp = nI tip ∧ rl_R T B tip par H W G (un, md, am, ow) cx cy pd sn rc mi tx pa hg wk co ba sp mn pr ws
theorem i_up {k : Nat} {u : SX} {v : SY} (h : i_Rel k u v) : i_Rel (k + 5) u v := h
theorem rl_el {k : Nat} {u : SX} {v : SY} {P : SX → SY → Prop} (I : i_Rel k u v) (h : ∀ (T B tip : Nat) (par H W : Nat → Nat) (G : Nat → Option rl_PS) (s q : rl_PS) (cx cy pd sn rc mi tx pa hg wk co ba : Nat → Int32) (sp mn : Nat → Int64) (wy pr ws th dn : Nat → Int32), rl_R T B tip par H W G s cx cy pd sn rc mi tx pa hg wk co ba sp mn pr ws → P (nI T, nI B, nI tip, nI tip, s.1, s.2.1, cx, cy, pd, sn, rc, pa, hg, mi, tx, wk, co, ba, s.2.2.1, s.2.2.2, sp, mn, wy) (nI T, nI B, nI tip, cx, cy, pd, sn, rc, pr, mi, ws, tx, ba, th, q.2.2.1, q.2.2.2, dn)) : P u v := by
  obtain ⟨tn, bn, tp, ap, un, md, cx, cy, pd, sn, rc, pa, hg, mi, tx, wk, co, ba, am, ow, sp, mn, wy⟩ := u
  obtain ⟨tn', bn', be, cx', cy', pd', sn', rc', pr, mi', ws, tx', ba', th, am', ow', dn⟩ := v
  obtain ⟨⟨e1, e2, e3, e4, e5, e6, e7, e8, e9, e10, e11, e12⟩, T, B, tip, par, H, W, G, e13, e14, e15, hr⟩ := I
  subst e1 e2 e3 e4 e5 e6 e7 e8 e9 e10 e11 e12 e13 e14 e15
  exact h T B tip par H W G (un, md, am, ow) (0, 0, am', ow') _ _ _ _ _ _ _ pa hg wk co _ sp mn wy pr ws th dn hr
section
variable {T B tip : Nat} {par H W : Nat → Nat} {G : Nat → Option rl_PS} {s q : rl_PS} {cx cy pd sn rc mi tx pa hg wk co ba : Nat → Int32} {sp mn : Nat → Int64} {wy pr ws th dn : Nat → Int32}
theorem rl_in {k : Nat} (hr : rl_R T B tip par H W G s cx cy pd sn rc mi tx pa hg wk co ba sp mn pr ws) : i_Rel k (nI T, nI B, nI tip, nI tip, s.1, s.2.1, cx, cy, pd, sn, rc, pa, hg, mi, tx, wk, co, ba, s.2.2.1, s.2.2.2, sp, mn, wy) (nI T, nI B, nI tip, cx, cy, pd, sn, rc, pr, mi, ws, tx, ba, th, q.2.2.1, q.2.2.2, dn) := ⟨⟨rfl, rfl, rfl, rfl, rfl, rfl, rfl, rfl, rfl, rfl, rfl, rfl⟩, T, B, tip, par, H, W, G, rfl, rfl, rfl, hr⟩
theorem rl_stp_nn {b : Nat} (e0 : tx (b * 2) = -1) (e1 : tx (b * 2 + 1) = -1) : rl_stp cx cy pd sn rc mi tx s b = some (rl_mk (32 + b) 50 (mi b) s) := by
  unfold rl_stp
  rw [e0, rl_car_n]
  show rl_car cx cy pd sn rc _ (tx (b * 2 + 1)) = _
  rw [e1, rl_car_n]
theorem rl_stp_bk {mi' tx' : Nat → Int32} {b : Nat} (e : mi' b = mi b) (e0 : tx' (b * 2) = tx (b * 2)) (e1 : tx' (b * 2 + 1) = tx (b * 2 + 1)) : rl_stp cx cy pd sn rc mi' tx' s b = rl_stp cx cy pd sn rc mi tx s b := by
  unfold rl_stp
  rw [e, e0, e1]
theorem rl_car_tb {cx' cy' pd' sn' rc' : Nat → Int32} {x : Int32} (hT : T ≤ 16) (h : ∀ k, k < T → cx' k = cx k ∧ cy' k = cy k ∧ pd' k = pd k ∧ sn' k = sn k ∧ rc' k = rc k) (hx : x = -1 ∨ ∃ k, k < T ∧ x = nI k) : rl_car cx' cy' pd' sn' rc' s x = rl_car cx cy pd sn rc s x := by
  rcases hx with hx | ⟨k, hk, hx⟩
  · subst hx
    rw [rl_car_n, rl_car_n]
  · subst hx
    obtain ⟨e1, e2, e3, e4, e5⟩ := h k hk
    rw [rl_car_k (by omega), rl_car_k (by omega)]
    unfold rl_fit rl_gd rl_f2 rl_app rl_ap0 rl_rest rl_sp rl_spd rl_sum
    rw [e1, e2, e3, e4, e5]
theorem rl_stp_tb {cx' cy' pd' sn' rc' : Nat → Int32} {b : Nat} (hT : T ≤ 16) (h : ∀ k, k < T → cx' k = cx k ∧ cy' k = cy k ∧ pd' k = pd k ∧ sn' k = sn k ∧ rc' k = rc k) (h0 : tx (b * 2) = -1 ∨ ∃ k, k < T ∧ tx (b * 2) = nI k) (h1 : tx (b * 2 + 1) = -1 ∨ ∃ k, k < T ∧ tx (b * 2 + 1) = nI k) : rl_stp cx' cy' pd' sn' rc' mi tx s b = rl_stp cx cy pd sn rc mi tx s b := by
  unfold rl_stp
  rw [rl_car_tb hT h h0]
  exact congrArg _ (funext fun s1 => rl_car_tb hT h h1)
end
end
section
/-! the constructors, transaction, tip, valid, total -/
theorem rl_r63 {x : Int32} (h0 : ¬ x < 0) (h : x ≤ 63) : ∃ j, j < 64 ∧ x = nI j := by
  obtain ⟨j, hj, e⟩ := nI_of2 (M := 63) (n := 63) (by decide) h0 h
  exact ⟨j, by omega, e⟩
theorem rl_rm1 {x : Int32} (h0 : ¬ x < -1) (h : x ≤ 63) : x = -1 ∨ ∃ j, j < 64 ∧ x = nI j := by
  by_cases z : x < 0
  · refine Or.inl (Int32.toInt_inj.mp ?_)
    rw [Int32.lt_iff_toInt_lt] at h0 z
    have e0 : (0 : Int32).toInt = 0 := by decide
    have e1 : (-1 : Int32).toInt = -1 := by decide
    rw [e1] at h0 ⊢
    rw [e0] at z
    omega
  · exact Or.inr (rl_r63 z h)
theorem rl_nar01 (b : Bool) : narrow .boolean (.int (rl_b01 b)) = .int (rl_b01 b) := by cases b <;> rfl
theorem i_vc0 : wpX_init (fun u => wpY_init (fun v => i_Rel 0 u v)) := by
  unfold wpX_init
  refine nm_e (nm_e (nm_e (nm_e (nm_e ?_))))
  refine rl_xmk (c := 32) (s := rl_z) (by decide) ?_
  refine nm_e ?_
  unfold wpY_init
  refine nm_e (nm_e ?_)
  refine rl_in (T := 0) (B := 1) (tip := 0) (par := fun _ => 0) (H := fun _ => 1) (W := fun _ => 0) (G := fun _ => some (rl_mk 32 50 0 rl_z)) (s := rl_mk 32 50 0 rl_z) (q := rl_z) ?_
  have P : rl_PW (fun _ => 0) := ⟨rfl, fun i hi => hi⟩
  have z1 : ∀ i, i < 1 → i = 0 := fun i hi => by omega
  have E : rl_EN 0 1 (fun _ => 0) (fun _ => some (rl_mk 32 50 0 rl_z)) (fun _ => 0) (fun _ => 0) (fun _ => 0) (fun _ => 0) (fun _ => 0) (fun _ => 0) (upd (upd (fun _ => 0) 0 (-1)) 1 (-1)) := by
    refine ⟨⟨by decide, by decide⟩, ⟨by decide, fun t ht => by omega⟩, fun i hi => ?_, P, ⟨_, rfl⟩, ?_, fun i h0 h1 => by omega⟩
    · refine Or.inl ?_
      by_cases y : i = 0
      · subst y; rfl
      · have y' : i = 1 := by omega
        subst y'; rfl
    · refine Eq.symm (rl_stp_nn (b := 0) ?_ ?_)
      · rfl
      · rfl
  refine ⟨⟨E, ⟨rfl, fun i h0 h1 => by omega⟩, ⟨⟨rfl, rfl⟩, fun i h0 h1 => by omega⟩, ⟨rfl, fun i h0 h1 => by omega, fun i hi => ?_⟩, fun i hi => rfl, fun i hi => ?_, fun i hi => rfl, ⟨rfl, fun i _ => rfl⟩, by decide, fun i h0 h1 => by omega⟩, (rl_V_iff P (by decide)).mpr ⟨⟨_, rfl⟩, fun a _ => rfl⟩, _, rfl, rl_ag_r⟩
  · rw [z1 i hi]; rfl
  · rw [z1 i hi]; rfl
section
variable {T B tip : Nat} {par H W : Nat → Nat} {G : Nat → Option rl_PS} {s q : rl_PS} {cx cy pd sn rc mi tx pa hg wk co ba : Nat → Int32} {sp mn : Nat → Int64} {wy pr ws th dn : Nat → Int32}
theorem rl_R_tx (hr : rl_R T B tip par H W G s cx cy pd sn rc mi tx pa hg wk co ba sp mn pr ws) (hT : T < 16) {x y a o r : Int32} (hx : ∃ j, j < 64 ∧ x = nI j) (hy : y = -1 ∨ ∃ j, j < 64 ∧ y = nI j) : rl_R (T + 1) B tip par H W G s (upd cx T x) (upd cy T y) (upd pd T a) (upd sn T o) (upd rc T r) mi tx pa hg wk co ba sp mn pr ws := by
  obtain ⟨⟨E, rest⟩, v⟩ := hr
  refine ⟨⟨?_, rest⟩, v⟩
  obtain ⟨hB, TW, BW, P, g0, G0, GS⟩ := E
  have tb : ∀ k, k < T → upd cx T x k = cx k ∧ upd cy T y k = cy k ∧ upd pd T a k = pd k ∧ upd sn T o k = sn k ∧ upd rc T r k = rc k := fun k hk => by
    have z : k ≠ T := by omega
    exact ⟨pk_un z, pk_un z, pk_un z, pk_un z, pk_un z⟩
  refine ⟨hB, ⟨by omega, fun t ht => ?_⟩, fun i hi => ?_, P, g0, ?_, fun i h0 h1 => ?_⟩
  · by_cases z : t = T
    · subst z
      rw [pk_us, pk_us]
      exact ⟨hx, hy⟩
    · rw [pk_un z, pk_un z]
      exact TW.2 t (by omega)
  · rcases BW i hi with e | ⟨k, hk, e⟩
    · exact Or.inl e
    · exact Or.inr ⟨k, by omega, e⟩
  · rw [rl_stp_tb TW.1 tb (BW _ (by omega)) (BW _ (by omega))]
    exact G0
  · rw [GS i h0 h1]
    exact congrArg _ (funext fun s1 => (rl_stp_tb TW.1 tb (BW _ (by omega)) (BW _ (by omega))).symm)
end
theorem i_vc_transaction {k : Nat} {u : SX} {v : SY} (I : i_Rel k u v) (hk : k + 5 ≤ 2560) (v1 : Int32) (v2 : Int32) (v3 : Int32) (v4 : Int32) : wpX_transaction (fun r u' => wpY_transaction (fun r' v' => r' = r ∧ i_Rel (k + 5) u' v') v v1 v2 v3 v4) u v1 v2 v3 v4 := by
  refine rl_el (P := fun u v => wpX_transaction (fun r u' => wpY_transaction (fun r' v' => r' = r ∧ i_Rel (k + 5) u' v') v v1 v2 v3 v4) u v1 v2 v3 v4) I ?_
  intro T B tip par H W G s q cx cy pd sn rc mi tx pa hg wk co ba sp mn wy pr ws th dn hr
  have hT16 := hr.1.1.2.1.1
  have e : (nI T).toNatClampNeg = T := nI_clamp (by omega)
  unfold wpX_transaction wpY_transaction
  dsimp only
  rw [e]
  by_cases a1 : v1 < 0
  · exact br_t a1 (br_t a1 ⟨rfl, rl_in hr⟩)
  by_cases a2 : 63 < v1
  · exact br_f a1 (br_t a2 (br_f a1 (br_t a2 ⟨rfl, rl_in hr⟩)))
  by_cases a3 : v2 < -1
  · exact br_f a1 (br_f a2 (br_t a3 (br_f a1 (br_f a2 (br_t a3 ⟨rfl, rl_in hr⟩)))))
  by_cases a4 : v2 ≤ 63
  · by_cases a5 : v3 < 1
    · exact br_f a1 (br_f a2 (br_f a3 (br_t a4 (br_t a5 (br_f a1 (br_f a2 (br_f a3 (br_t a4 (br_t a5 ⟨rfl, rl_in hr⟩)))))))))
    by_cases a6 : v3 ≤ 1000
    · by_cases hT : T < 16
      · have hi : vp_in (nI T) 16 := vp_in_nI hT (by decide)
        have ne : ¬ nI T = 16 := fun z => by
          have := (nI_eq (b := 16) (by omega) (by decide)).mp z
          omega
        refine br_f a1 (br_f a2 (br_f a3 (br_t a4 (br_f a5 (br_t a6 (br_t (nI_lt (b := 16) hT (by decide)) ?_))))))
        refine ⟨hi, nm_e ⟨hi, nm_e ⟨hi, nm_e ⟨hi, nm_e ⟨hi, nm_e (nm_r (nI_1 T) ?_)⟩⟩⟩⟩⟩
        refine br_f a1 (br_f a2 (br_f a3 (br_t a4 (br_f a5 (br_t a6 (br_f ne ?_))))))
        refine ⟨hi, nm_e ⟨hi, nm_e ⟨hi, nm_e ⟨hi, nm_e ⟨hi, nm_e (nm_r (nI_1 T) ⟨nI_pred T, ?_⟩)⟩⟩⟩⟩⟩
        exact rl_in (T := T + 1) (rl_R_tx hr hT (rl_r63 a1 (Int32.not_lt.mp a2)) (rl_rm1 a3 a4))
      · have eT : T = 16 := by omega
        subst eT
        refine br_f a1 (br_f a2 (br_f a3 (br_t a4 (br_f a5 (br_t a6 (br_f (by decide) ?_))))))
        exact br_f a1 (br_f a2 (br_f a3 (br_t a4 (br_f a5 (br_t a6 (br_t (by decide) ⟨rfl, rl_in hr⟩))))))
    · exact br_f a1 (br_f a2 (br_f a3 (br_t a4 (br_f a5 (br_f a6 (br_f a1 (br_f a2 (br_f a3 (br_t a4 (br_f a5 (br_f a6 ⟨rfl, rl_in hr⟩)))))))))))
  · exact br_f a1 (br_f a2 (br_f a3 (br_f a4 (br_f a1 (br_f a2 (br_f a3 (br_f a4 ⟨rfl, rl_in hr⟩)))))))
theorem i_vc_tip {k : Nat} {u : SX} {v : SY} (I : i_Rel k u v) (hk : k + 5 ≤ 2560) : wpX_tip (fun r => wpY_tip (fun r' => r' = r ∧ i_Rel (k + 5) u v) v) u := by
  refine rl_el (P := fun u v => wpX_tip (fun r => wpY_tip (fun r' => r' = r ∧ i_Rel (k + 5) u v) v) u) I ?_
  intro T B tip par H W G s q cx cy pd sn rc mi tx pa hg wk co ba sp mn wy pr ws th dn hr
  unfold wpX_tip wpY_tip
  dsimp only
  exact ⟨rfl, rl_in hr⟩
section
variable {tn bn tp ap : Int32} {cx cy pd sn rc pa hg mi tx wk co ba : Nat → Int32} {sp mn : Nat → Int64} {wy : Nat → Int32} {s : rl_PS} {B b : Nat}
theorem rl_xnb {post : Int32 → Prop} (hB : B ≤ 21) (hb : b < B) (hp : post 0) : wpX_noBlock post (tn, nI B, tp, ap, s.1, s.2.1, cx, cy, pd, sn, rc, pa, hg, mi, tx, wk, co, ba, s.2.2.1, s.2.2.2, sp, mn, wy) (nI b) := by
  unfold wpX_noBlock
  dsimp only
  exact br_f (nI_pos (by omega)) (br_t (nI_lt hb (by omega)) hp)
theorem rl_xnn {post : Int32 → Prop} {x : Int32} (hx : x < 0 ∨ nI B ≤ x) (hp : post 1) : wpX_noBlock post (tn, nI B, tp, ap, s.1, s.2.1, cx, cy, pd, sn, rc, pa, hg, mi, tx, wk, co, ba, s.2.2.1, s.2.2.2, sp, mn, wy) x := by
  unfold wpX_noBlock
  dsimp only
  by_cases h0 : x < 0
  · exact br_t h0 hp
  · exact br_f h0 (br_f (Int32.not_lt.mpr (hx.resolve_left h0)) hp)
end
theorem rl_ixB {B : Nat} (hB : B ≤ 21) (x : Int32) : (x < 0 ∨ nI B ≤ x) ∨ ∃ j, j < B ∧ x = nI j := by
  rcases pk_ix x (n := B) (by omega) with h | h | h
  · exact Or.inl (Or.inl h)
  · exact Or.inl (Or.inr h)
  · exact Or.inr h
theorem i_vc_valid {k : Nat} {u : SX} {v : SY} (I : i_Rel k u v) (hk : k + 5 ≤ 2560) (v1 : Int32) : wpX_valid (fun r => wpY_valid (fun r' v' => r' = r ∧ i_Rel (k + 5) u v') v v1) u v1 := by
  refine rl_el (P := fun u v => wpX_valid (fun r => wpY_valid (fun r' v' => r' = r ∧ i_Rel (k + 5) u v') v v1) u v1) I ?_
  intro T B tip par H W G s q cx cy pd sn rc mi tx pa hg wk co ba sp mn wy pr ws th dn hr
  obtain ⟨E, hw, hW, X, K, C, R, hba, ht, NT⟩ := hr.1
  have hB := E.1
  unfold wpX_valid
  dsimp only
  rcases rl_ixB hB.2 v1 with h | ⟨j, hj, e⟩
  · refine rl_xnn h (br_f rl_n0 ?_)
    unfold wpY_valid
    dsimp only
    exact rl_yisn h (br_t rfl ⟨rfl, rl_in hr⟩)
  · subst e
    exact rl_xnb hB.2 hj (br_t rfl (rl_xval hB.2 E.2.2.2.1 X C hj ⟨rl_nar01 _, rl_yval E R hj (fun th am ow dn => ⟨rfl, rl_in (q := (0, 0, am, ow)) hr⟩)⟩))
theorem i_vc_total {k : Nat} {u : SX} {v : SY} (I : i_Rel k u v) (hk : k + 5 ≤ 2560) (v1 : Int32) : wpX_total (fun r => wpY_total (fun r' => r' = r ∧ i_Rel (k + 5) u v) v v1) u v1 := by
  refine rl_el (P := fun u v => wpX_total (fun r => wpY_total (fun r' => r' = r ∧ i_Rel (k + 5) u v) v v1) u v1) I ?_
  intro T B tip par H W G s q cx cy pd sn rc mi tx pa hg wk co ba sp mn wy pr ws th dn hr
  obtain ⟨E, hw, hW, X, K, C, R, hba, ht, NT⟩ := hr.1
  have hB := E.1
  unfold wpX_total
  dsimp only
  rcases rl_ixB hB.2 v1 with h | ⟨j, hj, e⟩
  · refine rl_xnn h (br_f rl_n0 ?_)
    unfold wpY_total
    dsimp only
    exact rl_yisn h (br_t rfl ⟨rfl, rl_in hr⟩)
  · subst e
    have ej : (nI j).toNatClampNeg = j := nI_clamp (by omega)
    rw [ej, K j hj]
    exact rl_xnb hB.2 hj (br_t rfl ⟨vp_in_nI (by omega) (by decide), rl_ytot E R hW hj ⟨rfl, rl_in hr⟩⟩)
end
section
/-! balance, unspent, fits -/
def rl_bal (s : rl_PS) (o : Int32) : Nat → Int32
  | 0 => 0
  | j + 1 => if rl_bit s.1 j = true ∧ s.2.2.2 j = o then rl_bal s o j + s.2.2.1 j else rl_bal s o j
theorem rl_bal_ag {s s' : rl_PS} {o : Int32} (w : rl_WF s) (g : rl_ag s s') : ∀ j, j ≤ 64 → rl_bal s' o j = rl_bal s o j := by
  intro j
  induction j with
  | zero => intro _; rfl
  | succ j ih =>
    intro hj
    have e := ih (by omega)
    show (if rl_bit s'.1 j = true ∧ s'.2.2.2 j = o then rl_bal s' o j + s'.2.2.1 j else rl_bal s' o j) = (if rl_bit s.1 j = true ∧ s.2.2.2 j = o then rl_bal s o j + s.2.2.1 j else rl_bal s o j)
    rw [g.1, e]
    by_cases q : rl_bit s.1 j = true
    · obtain ⟨e1, e2⟩ := g.2.2 j (by omega) (w.1 j (by omega) q)
      rw [e1, e2]
    · rw [if_neg (fun z => q z.1), if_neg (fun z => q z.1)]
section
variable {tn bn tp ap : Int32} {cx cy pd sn rc pa hg mi tx wk co ba : Nat → Int32} {sp mn : Nat → Int64} {wy : Nat → Int32} {s : rl_PS}
theorem rl_xbal {post : Int32 → Prop} {o : Int32} (hp : post (rl_bal s o 64)) : ∀ n j, 64 - j < n → j ≤ 64 → wX_balance_16 post o tn bn tp ap s.1 s.2.1 cx cy pd sn rc pa hg mi tx wk co ba s.2.2.1 s.2.2.2 sp mn wy n (rl_bal s o j) (nI j) := by
  intro n
  induction n with
  | zero => intro j h; omega
  | succ n ih =>
    intro j hn hj
    have ej : (nI j).toNatClampNeg = j := nI_clamp (by omega)
    rw [wX_balance_16]
    dsimp only
    rw [ej]
    by_cases z : j = 64
    · subst z
      exact br_t (by decide) hp
    · have hi : vp_in (nI j) 64 := vp_in_nI (by omega) (by decide)
      have nx := ih (j + 1) (by omega) (by omega)
      refine br_f (nI_ge (b := 64) (by omega) (by decide)) (rl_xun rfl (by omega) ?_)
      cases u : rl_bit s.1 j with
      | false =>
        have e : rl_bal s o (j + 1) = rl_bal s o j := if_neg (fun z => by rw [u] at z; cases z.1)
        rw [e] at nx
        exact br_t rfl (nm_r (nI_1 j) nx)
      | true =>
        refine br_f (by decide) ⟨hi, ?_⟩
        by_cases y : s.2.2.2 j = o
        · have e : rl_bal s o (j + 1) = rl_bal s o j + s.2.2.1 j := if_pos ⟨u, y⟩
          rw [e] at nx
          exact br_t y ⟨hi, nm_e (nm_r (nI_1 j) nx)⟩
        · have e : rl_bal s o (j + 1) = rl_bal s o j := if_neg (fun z => y z.2)
          rw [e] at nx
          exact br_f y (nm_r (nI_1 j) nx)
end
section
variable {tn bn be : Int32} {cx cy pd sn rc pr mi ws tx ba th dn : Nat → Int32} {s : rl_PS} {par H W : Nat → Nat} {G : Nat → Option rl_PS} {T B N a b c t j : Nat} {g gp s' : rl_PS}
theorem rl_ybal {post : Int32 → SY → Prop} {o : Int32} (hth : rl_TH s.1 th) (hp : post (rl_bal s o 64) (tn, bn, be, cx, cy, pd, sn, rc, pr, mi, ws, tx, ba, th, s.2.2.1, s.2.2.2, dn)) : ∀ n j, 64 - j < n → j ≤ 64 → wY_balance_25 post o tn bn be cx cy pd sn rc pr mi ws tx ba th s.2.2.1 s.2.2.2 dn n (rl_bal s o j) (nI j) := by
  intro n
  induction n with
  | zero => intro j h; omega
  | succ n ih =>
    intro j hn hj
    have ej : (nI j).toNatClampNeg = j := nI_clamp (by omega)
    rw [wY_balance_25]
    dsimp only
    rw [ej]
    by_cases z : j = 64
    · subst z
      exact br_t (by decide) hp
    · have hi : vp_in (nI j) 64 := vp_in_nI (by omega) (by decide)
      have nx := ih (j + 1) (by omega) (by omega)
      rw [hth j (by omega)]
      refine br_f (nI_ge (b := 64) (by omega) (by decide)) ⟨hi, ?_⟩
      cases u : rl_bit s.1 j with
      | false =>
        have e : rl_bal s o (j + 1) = rl_bal s o j := if_neg (fun z => by rw [u] at z; cases z.1)
        rw [e] at nx
        exact br_t rfl (nm_r (nI_1 j) nx)
      | true =>
        refine br_f (by decide) ⟨hi, ?_⟩
        by_cases y : s.2.2.2 j = o
        · have e : rl_bal s o (j + 1) = rl_bal s o j + s.2.2.1 j := if_pos ⟨u, y⟩
          rw [e] at nx
          exact br_t y ⟨hi, nm_e (nm_r (nI_1 j) nx)⟩
        · have e : rl_bal s o (j + 1) = rl_bal s o j := if_neg (fun z => y z.2)
          rw [e] at nx
          exact br_f y (nm_r (nI_1 j) nx)
theorem rl_yrepT {post : Int32 → SY → Prop} (E : rl_EN T B par G cx cy pd sn rc mi tx) (R : ∀ i, i < B → pr i = nI (par i)) (ht : t < B) (v : rl_V par ba G t = true) (eg : G t = some g) (hT : ∀ s' th' dn', rl_ag g s' → rl_TH s'.1 th' → rl_DN s'.2.1 dn' → post 1 (tn, bn, be, cx, cy, pd, sn, rc, pr, mi, ws, tx, ba, th', s'.2.2.1, s'.2.2.2, dn')) : wpY_replay post (tn, bn, be, cx, cy, pd, sn, rc, pr, mi, ws, tx, ba, th, s.2.2.1, s.2.2.2, dn) (nI t) := by
  refine rl_yrep E R ht (fun z => ?_) (fun s' th' dn' g' _ eg' ag h1 h2 => ?_)
  · rw [v] at z
    cases z
  · rw [eg] at eg'
    cases eg'
    exact hT s' th' dn' ag h1 h2
end
theorem i_vc_balance {k : Nat} {u : SX} {v : SY} (I : i_Rel k u v) (hk : k + 5 ≤ 2560) (v1 : Int32) : wpX_balance (fun r => wpY_balance (fun r' v' => r' = r ∧ i_Rel (k + 5) u v') v v1) u v1 := by
  refine rl_el (P := fun u v => wpX_balance (fun r => wpY_balance (fun r' v' => r' = r ∧ i_Rel (k + 5) u v') v v1) u v1) I ?_
  intro T B tip par H W G s q cx cy pd sn rc mi tx pa hg wk co ba sp mn wy pr ws th dn hr
  obtain ⟨E, hw, hW, X, K, C, R, hba, ht, NT⟩ := hr.1
  obtain ⟨vt, g, eg, ag⟩ := hr.2
  have wg := (rl_G_p E tip ht g eg).1
  unfold wpX_balance wpY_balance
  dsimp only
  by_cases a1 : v1 < 0
  · exact br_t a1 (br_t a1 ⟨rfl, rl_in hr⟩)
  by_cases a2 : v1 ≤ 7
  · refine br_f a1 (br_t a2 ⟨65, rl_xbal ?_ 65 0 (by omega) (by omega)⟩)
    refine br_f a1 (br_t a2 (rl_yrepT E R ht vt eg (fun s' th' dn' ag' h1 h2 => ⟨65, rl_ybal (s := s') h1 ⟨?_, rl_in (q := s') hr⟩ 65 0 (by omega) (by omega)⟩)))
    rw [rl_bal_ag wg ag' 64 (by omega), rl_bal_ag wg ag 64 (by omega)]
  · exact br_f a1 (br_f a2 (br_f a1 (br_f a2 ⟨rfl, rl_in hr⟩)))
theorem i_vc_unspent {k : Nat} {u : SX} {v : SY} (I : i_Rel k u v) (hk : k + 5 ≤ 2560) (v1 : Int32) : wpX_unspent (fun r => wpY_unspent (fun r' v' => r' = r ∧ i_Rel (k + 5) u v') v v1) u v1 := by
  refine rl_el (P := fun u v => wpX_unspent (fun r => wpY_unspent (fun r' v' => r' = r ∧ i_Rel (k + 5) u v') v v1) u v1) I ?_
  intro T B tip par H W G s q cx cy pd sn rc mi tx pa hg wk co ba sp mn wy pr ws th dn hr
  obtain ⟨E, hw, hW, X, K, C, R, hba, ht, NT⟩ := hr.1
  obtain ⟨vt, g, eg, ag⟩ := hr.2
  unfold wpX_unspent wpY_unspent
  dsimp only
  by_cases a1 : v1 < 0
  · exact br_t a1 (br_t a1 ⟨rfl, rl_in hr⟩)
  by_cases a2 : v1 ≤ 63
  · obtain ⟨c, hc, e⟩ := rl_r63 a1 a2
    subst e
    have ec : (nI c).toNatClampNeg = c := nI_clamp (by omega)
    rw [ec]
    refine br_f a1 (br_t a2 (rl_xun rfl hc ⟨rl_nar01 _, ?_⟩))
    refine br_f a1 (br_t a2 (rl_yrepT E R ht vt eg (fun s' th' dn' ag' h1 h2 => ?_)))
    have et : th' c = rl_b01 (rl_bit s.1 c) := by rw [h1 c hc, ag'.1, ag.1]
    refine ⟨vp_in_nI hc (by decide), ?_, ?_, rl_in (q := s') hr⟩
    · dsimp only
      rw [et]
      exact rl_nar01 _
    · exact et
  · exact br_f a1 (br_f a2 (br_f a1 (br_f a2 ⟨rfl, rl_in hr⟩)))
theorem i_vc_fits {k : Nat} {u : SX} {v : SY} (I : i_Rel k u v) (hk : k + 5 ≤ 2560) (v1 : Int32) : wpX_fits (fun r => wpY_fits (fun r' v' => r' = r ∧ i_Rel (k + 5) u v') v v1) u v1 := by
  refine rl_el (P := fun u v => wpX_fits (fun r => wpY_fits (fun r' v' => r' = r ∧ i_Rel (k + 5) u v') v v1) u v1) I ?_
  intro T B tip par H W G s q cx cy pd sn rc mi tx pa hg wk co ba sp mn wy pr ws th dn hr
  obtain ⟨E, hw, hW, X, K, C, R, hba, ht, NT⟩ := hr.1
  obtain ⟨vt, g, eg, ag⟩ := hr.2
  have wg := (rl_G_p E tip ht g eg).1
  have hT := E.2.1.1
  unfold wpX_fits wpY_fits
  dsimp only
  by_cases a1 : v1 < 0
  · exact br_t a1 (br_t a1 ⟨rfl, rl_in hr⟩)
  by_cases a2 : v1 < nI T
  · obtain ⟨c, hc, e⟩ := nI_of a1
    subst e
    have hcT : c < T := (nI_ltI hc (by omega)).mp a2
    refine br_f a1 (br_t a2 (rl_xfit E.2.1 hcT ⟨rl_nar01 _, ?_⟩))
    refine br_f a1 (br_t a2 (rl_yrepT E R ht vt eg (fun s' th' dn' ag' h1 h2 => ?_)))
    refine rl_yfit (s := s') E.2.1 hcT (rl_ag_wf ag' wg) h1 h2 ⟨rl_nar01 _, ?_, rl_in (q := s') hr⟩
    rw [rl_fit_ag E.2.1 hcT wg ag', rl_fit_ag E.2.1 hcT wg ag]
  · exact br_f a1 (br_f a2 (br_f a1 (br_f a2 ⟨rfl, rl_in hr⟩)))
end
section
/-! confirmations, shared -/
def rl_has (tx : Nat → Int32) (x : Int32) (b : Nat) : Prop := tx (b * 2) = x ∨ tx (b * 2 + 1) = x
section
variable {tn bn tp ap : Int32} {cx cy pd sn rc pa hg mi tx wk co ba : Nat → Int32} {sp mn : Nat → Int64} {wy : Nat → Int32} {s : rl_PS} {par H : Nat → Nat} {T B b tip : Nat}
theorem rl_xcf {post : Int32 → Prop} {x : Int32} (hB : B ≤ 21) (P : rl_PW par) (X : rl_XE B par H pa hg) (ht : tip < B) (hp1 : ∀ b, rl_an par b tip = true → rl_has tx x b → post (nI (H tip) - nI (H b) + 1)) (hp0 : (∀ a, rl_an par a tip = true → ¬ rl_has tx x a) → post 0) : ∀ m n k b, k + m = 21 → m < n → b < m → rl_an par b tip = true → (∀ a, rl_an par a tip = true → ¬ rl_an par a b = true → ¬ rl_has tx x a) → wX_confirmations_22 post x tn bn (nI tip) ap s.1 s.2.1 cx cy pd sn rc pa hg mi tx wk co ba s.2.2.1 s.2.2.2 sp mn wy n (nI b) (nI k) := by
  intro m
  induction m with
  | zero => intro n k b _ _ h; omega
  | succ m ih =>
    intro n k b hk hn hm q inv
    obtain ⟨n, rfl⟩ : ∃ r, n = r + 1 := ⟨n - 1, by omega⟩
    have hb := rl_an_le P _ q
    have et : (nI tip).toNatClampNeg = tip := nI_clamp (by omega)
    have e : (nI b).toNatClampNeg = b := nI_clamp (by omega)
    have e2 : (nI (b * 2)).toNatClampNeg = b * 2 := nI_clamp (by omega)
    have e3 : (nI (b * 2 + 1)).toNatClampNeg = b * 2 + 1 := nI_clamp (by omega)
    have hi : vp_in (nI b) 21 := vp_in_nI (by omega) (by decide)
    have H58 : rl_has tx x b → wX_confirmations_58 post (nI b) tn bn (nI tip) ap s.1 s.2.1 cx cy pd sn rc pa hg mi tx wk co ba s.2.2.1 s.2.2.2 sp mn wy := fun h => by
      have r := hp1 b q h
      rw [← X.2.2 tip ht, ← X.2.2 b (by omega)] at r
      unfold wX_confirmations_58
      rw [et, e]
      exact ⟨vp_in_nI (by omega) (by decide), hi, r⟩
    rw [wX_confirmations_22]
    dsimp only
    rw [rl_t2, nI_1 (b * 2), e, e2, e3]
    refine br_f (nI_ge (b := 21) (by omega) (by decide)) (br_f (nI_pos (by omega)) ⟨vp_in_nI (by omega) (by decide), ?_⟩)
    by_cases y1 : tx (b * 2) = x
    · exact br_t y1 (H58 (Or.inl y1))
    refine br_f y1 ⟨vp_in_nI (by omega) (by decide), ?_⟩
    by_cases y2 : tx (b * 2 + 1) = x
    · exact br_t y2 (H58 (Or.inr y2))
    have nh : ¬ rl_has tx x b := fun z => z.elim y1 y2
    refine br_f y2 ⟨hi, ?_⟩
    by_cases z : b = 0
    · subst z
      have r := hp0 (fun a qa => by
        by_cases w : rl_an par a 0 = true
        · rw [rl_an_0 P, decide_eq_true_eq] at w
          rw [← w]
          exact nh
        · exact inv a qa w)
      refine nm_r X.1 (nm_r (nI_1 k) ?_)
      obtain ⟨n, rfl⟩ : ∃ r, n = r + 1 := ⟨n - 1, by omega⟩
      rw [wX_confirmations_22]
      exact br_c (fun _ => r) (fun _ => br_t (by decide) r)
    · have hp := P.2 b (by omega)
      refine nm_r (X.2.1 b (by omega) (by omega)) (nm_r (nI_1 k) ?_)
      refine ih n (k + 1) (par b) (by omega) (by omega) (by omega) (rl_an_par P q) (fun a qa w => ?_)
      by_cases u : b = a
      · rw [← u]; exact nh
      · exact inv a qa (fun z => ((rl_an_i P (by omega)).mp z).elim u w)
end
section
variable {tn bn be : Int32} {cx cy pd sn rc pr mi ws tx ba th dn : Nat → Int32} {s : rl_PS} {par H W : Nat → Nat} {G : Nat → Option rl_PS} {T B N a b c t j tip : Nat} {g gp s' : rl_PS}
def rl_CI (par H : Nat → Nat) (tx : Nat → Int32) (x : Int32) (tip j y : Nat) (fl : Bool) : Prop := (fl = false ∧ y = 0 ∧ ∀ a, a < j → rl_an par a tip = true → ¬ rl_has tx x a) ∨ (fl = true ∧ ∃ f, f < j ∧ rl_an par f tip = true ∧ rl_has tx x f ∧ y + H f = H (rl_lst par tip j) + 1)
theorem rl_ycf {post : Int32 → Prop} {x : Int32} (hB : B ≤ 21) (P : rl_PW par) (R : ∀ i, i < B → pr i = nI (par i)) (hw : rl_HW B par H) (ht : tip < B) (hp1 : ∀ f y, rl_an par f tip = true → rl_has tx x f → y + H f = H tip + 1 → post (nI y)) (hp0 : (∀ a, rl_an par a tip = true → ¬ rl_has tx x a) → post 0) : ∀ n j y fl, tip + 1 - j < n → j ≤ tip + 1 → rl_CI par H tx x tip j y fl → wY_confirmations_22 post x tn bn (nI tip) cx cy pd sn rc pr mi ws tx ba th s.2.2.1 s.2.2.2 dn n (nI y) (rl_b01 fl) (nI j) := by
  intro n
  induction n with
  | zero => intro j y fl h; omega
  | succ n ih =>
    intro j y fl hn hj I
    have e2 : (nI (j * 2)).toNatClampNeg = j * 2 := nI_clamp (by omega)
    have e3 : (nI (j * 2 + 1)).toNatClampNeg = j * 2 + 1 := nI_clamp (by omega)
    rw [wY_confirmations_22]
    dsimp only
    rw [rl_t2, nI_1 (j * 2), e2, e3]
    by_cases z : j = tip + 1
    · subst z
      refine br_t (nI_lt (by omega) (by omega)) ?_
      rcases I with ⟨_, e, h⟩ | ⟨_, f, _, q, h, e⟩
      · subst e
        exact hp0 (fun a qa => h a (by have := rl_an_le P _ qa; omega) qa)
      · rw [rl_lst_e P tip _ (by omega)] at e
        exact hp1 f y q h e
    · refine br_f (nI_nlt (by omega) (by omega)) (rl_yon hB P R (by omega) ht ?_)
      cases q : rl_an par j tip with
      | false =>
        have q' : ¬ rl_an par j tip = true := by rw [q]; decide
        refine br_t rfl (nm_r (nI_1 j) (ih (j + 1) y fl (by omega) (by omega) ?_))
        rcases I with ⟨e1, e, h⟩ | ⟨e1, f, hf, qf, h, e⟩
        · refine Or.inl ⟨e1, e, fun a ha qa => ?_⟩
          by_cases w : a = j
          · subst w; exact absurd qa q'
          · exact h a (by omega) qa
        · exact Or.inr ⟨e1, f, by omega, qf, h, by rw [rl_lst_n q']; exact e⟩
      | true =>
        have nx1 : rl_CI par H tx x tip (j + 1) (y + 1) true → wY_confirmations_76 post (wY_confirmations_22 post x tn bn (nI tip) cx cy pd sn rc pr mi ws tx ba th s.2.2.1 s.2.2.2 dn n) x (nI y) (nI j) tn bn (nI tip) cx cy pd sn rc pr mi ws tx ba th s.2.2.1 s.2.2.2 dn := fun I' => by
          unfold wY_confirmations_76 wY_confirmations_81
          exact br_f rl_n0 (nm_r (nI_1 y) (nm_r (nI_1 j) (ih (j + 1) (y + 1) true (by omega) (by omega) I')))
        refine br_f (by decide) ?_
        rcases I with ⟨e1, e, h⟩ | ⟨e1, f, hf, qf, h, e⟩
        · subst e1
          subst e
          have I1 : rl_has tx x j → rl_CI par H tx x tip (j + 1) (0 + 1) true := fun hh => Or.inr ⟨rfl, j, by omega, q, hh, by rw [rl_lst_y q]; omega⟩
          refine br_t rfl ⟨vp_in_nI (by omega) (by decide), ?_⟩
          by_cases y1 : tx (j * 2) = x
          · exact br_t y1 (nx1 (I1 (Or.inl y1)))
          refine br_f y1 ⟨vp_in_nI (by omega) (by decide), ?_⟩
          by_cases y2 : tx (j * 2 + 1) = x
          · exact br_t y2 (nx1 (I1 (Or.inr y2)))
          refine br_f y2 ?_
          unfold wY_confirmations_81
          refine br_t rfl (nm_r (nI_1 j) (ih (j + 1) 0 false (by omega) (by omega) (Or.inl ⟨rfl, rfl, fun a ha qa => ?_⟩)))
          by_cases w : a = j
          · subst w; exact fun hh => hh.elim y1 y2
          · exact h a (by omega) qa
        · subst e1
          refine br_f (by decide) (nx1 (Or.inr ⟨rfl, f, by omega, qf, h, ?_⟩))
          rw [rl_lst_par P (by omega) q] at e
          rw [rl_lst_y q, hw.2 j (by omega) (by omega)]
          omega
theorem rl_ysh {post : Int32 → Prop} (hB : B ≤ 21) (P : rl_PW par) (R : ∀ i, i < B → pr i = nI (par i)) (hw : rl_HW B par H) (ha : a < B) (hb : b < B) (hc : c < B) (hq : ∀ q, rl_an par q c = (rl_an par q a && rl_an par q b)) (hp : post (nI (H c))) : ∀ n j y, B - j < n → j ≤ B → (j = 0 → y = 0) → (0 < j → y = H (rl_lst par c j)) → wY_shared_24 post (nI a) (nI b) tn (nI B) be cx cy pd sn rc pr mi ws tx ba th s.2.2.1 s.2.2.2 dn n (nI y) (nI j) := by
  intro n
  induction n with
  | zero => intro j y h; omega
  | succ n ih =>
    intro j y hn hj i0 i1
    rw [wY_shared_24]
    dsimp only
    by_cases z : j = B
    · subst z
      refine br_t (nI_le (by omega) (by omega)) ?_
      rw [i1 (by omega), rl_lst_e P c _ hc]
      exact hp
    · have nx : rl_an par j c = false → wY_shared_24 post (nI a) (nI b) tn (nI B) be cx cy pd sn rc pr mi ws tx ba th s.2.2.1 s.2.2.2 dn n (nI y) (nI (j + 1)) := fun q => by
        have q' : ¬ rl_an par j c = true := by rw [q]; decide
        have h0 : 0 < j := by
          rcases Nat.eq_zero_or_pos j with y | y
          · subst y; exact absurd (rl_an_z P c) q'
          · exact y
        refine ih (j + 1) y (by omega) (by omega) (fun y => by omega) (fun _ => ?_)
        rw [rl_lst_n q']
        exact i1 h0
      have qj := hq j
      refine br_f (nI_ge (by omega) (by omega)) (rl_yon hB P R (by omega) ha ?_)
      cases qa : rl_an par j a with
      | false =>
        rw [qa, Bool.false_and] at qj
        exact br_t rfl (nm_r (nI_1 j) (nx qj))
      | true =>
        refine br_f (by decide) (rl_yon hB P R (by omega) hb ?_)
        cases qb : rl_an par j b with
        | false =>
          rw [qb, Bool.and_false] at qj
          exact br_t rfl (nm_r (nI_1 j) (nx qj))
        | true =>
          rw [qa, qb, Bool.and_true] at qj
          refine br_f (by decide) (nm_r (nI_1 y) (nm_r (nI_1 j) (ih (j + 1) (y + 1) (by omega) (by omega) (fun y => by omega) (fun _ => ?_))))
          rw [rl_lst_y qj]
          by_cases w : j = 0
          · subst w
            rw [i0 rfl, hw.1]
          · rw [i1 (by omega), rl_lst_par P (by omega) qj, hw.2 j (by omega) (by omega)]
theorem rl_one_f {x : Nat} {f b : Nat} (E : rl_EN T B par G cx cy pd sn rc mi tx) (ht : tip < B) (eg : G tip = some g) (hx : x < T) (qf : rl_an par f tip = true) (hf : rl_has tx (nI x) f) (qb : rl_an par b tip = true) (hb : rl_has tx (nI x) b) : ¬ f < b := by
  intro l
  have P := E.2.2.2.1
  have lb := rl_an_le P _ qb
  obtain ⟨gb, eb, _⟩ := rl_G_an E tip ht qb g eg
  exact rl_uniq E (by omega) (by omega) eb hx hb (rl_an_mid P tip qf qb l) hf
end
theorem i_vc_confirmations {k : Nat} {u : SX} {v : SY} (I : i_Rel k u v) (hk : k + 5 ≤ 2560) (v1 : Int32) : wpX_confirmations (fun r => wpY_confirmations (fun r' => r' = r ∧ i_Rel (k + 5) u v) v v1) u v1 := by
  refine rl_el (P := fun u v => wpX_confirmations (fun r => wpY_confirmations (fun r' => r' = r ∧ i_Rel (k + 5) u v) v v1) u v1) I ?_
  intro T B tip par H W G s q cx cy pd sn rc mi tx pa hg wk co ba sp mn wy pr ws th dn hr
  obtain ⟨E, hw, hW, X, K, C, R, hba, ht, NT⟩ := hr.1
  obtain ⟨vt, g, eg, ag⟩ := hr.2
  have hT := E.2.1.1
  have hB := E.1
  have P := E.2.2.2.1
  unfold wpX_confirmations wpY_confirmations
  dsimp only
  by_cases a1 : v1 < 0
  · exact br_t a1 (br_t a1 ⟨rfl, rl_in hr⟩)
  by_cases a2 : v1 < nI T
  · obtain ⟨c, hc, e⟩ := nI_of a1
    subst e
    have hcT : c < T := (nI_ltI hc (by omega)).mp a2
    refine br_f a1 (br_t a2 ⟨22, rl_xcf hB.2 P X ht (fun b qb hb => ?_) (fun no => ?_) 21 22 0 tip rfl (by decide) (by omega) rl_an_self (fun a q w => absurd q w)⟩)
    · have lb := rl_an_le P _ qb
      have hH := rl_H_an P hw tip ht qb
      have l1 := rl_H_le P hw b (by omega)
      refine br_f a1 (br_t a2 ⟨tip + 2, rl_ycf hB.2 P R hw ht (fun f y qf hf ey => ⟨?_, rl_in hr⟩) (fun no => absurd hb (no b qb)) (tip + 2) 0 0 false (by omega) (by omega) (Or.inl ⟨rfl, rfl, fun a ha => by omega⟩)⟩)
      have n1 := rl_one_f E ht eg hcT qf hf qb hb
      have n2 := rl_one_f E ht eg hcT qb hb qf hf
      have ef : f = b := by omega
      subst ef
      have hle : H f ≤ H tip := by
        rcases hH with r | r
        · rw [r]; exact Nat.le_refl _
        · omega
      rw [pk_sub hle, nI_1]
      exact congrArg nI (by omega)
    · exact br_f a1 (br_t a2 ⟨tip + 2, rl_ycf hB.2 P R hw ht (fun f y qf hf ey => absurd hf (no f qf)) (fun _ => ⟨rfl, rl_in hr⟩) (tip + 2) 0 0 false (by omega) (by omega) (Or.inl ⟨rfl, rfl, fun a ha => by omega⟩)⟩)
  · exact br_f a1 (br_f a2 (br_f a1 (br_f a2 ⟨rfl, rl_in hr⟩)))
theorem i_vc_shared {k : Nat} {u : SX} {v : SY} (I : i_Rel k u v) (hk : k + 5 ≤ 2560) (v1 : Int32) (v2 : Int32) : wpX_shared (fun r => wpY_shared (fun r' => r' = r ∧ i_Rel (k + 5) u v) v v1 v2) u v1 v2 := by
  refine rl_el (P := fun u v => wpX_shared (fun r => wpY_shared (fun r' => r' = r ∧ i_Rel (k + 5) u v) v v1 v2) u v1 v2) I ?_
  intro T B tip par H W G s q cx cy pd sn rc mi tx pa hg wk co ba sp mn wy pr ws th dn hr
  obtain ⟨E, hw, hW, X, K, C, R, hba, ht, NT⟩ := hr.1
  have hB := E.1
  have P := E.2.2.2.1
  unfold wpX_shared wpY_shared
  dsimp only
  rcases rl_ixB hB.2 v1 with h | ⟨a, ha, e⟩
  · exact rl_xnn h (br_f rl_n0 (rl_yisn h (br_t rfl ⟨rfl, rl_in hr⟩)))
  · subst e
    refine rl_xnb hB.2 ha (br_t rfl ?_)
    rcases rl_ixB hB.2 v2 with h | ⟨b, hb, e⟩
    · exact rl_xnn h (br_f rl_n0 (rl_yisb hB.2 ha (br_f rl_n0 (rl_yisn h (br_t rfl ⟨rfl, rl_in hr⟩)))))
    · subst e
      refine rl_xnb hB.2 hb (br_t rfl (rl_xfork hB.2 P X hw ha hb (fun c hc hq => ⟨vp_in_nI (by omega) (by decide), ?_⟩)))
      have ec : (nI c).toNatClampNeg = c := nI_clamp (by omega)
      rw [ec, X.2.2 c hc]
      refine rl_yisb hB.2 ha (br_f rl_n0 (rl_yisb hB.2 hb (br_f rl_n0 ⟨22, rl_ysh hB.2 P R hw ha hb hc hq ⟨rfl, rl_in hr⟩ 22 0 0 (by omega) (by omega) (fun _ => rfl) (fun q => by omega)⟩)))
end
section
/-! ban -/
theorem i_vc_ban {k : Nat} {u : SX} {v : SY} (I : i_Rel k u v) (hk : k + 5 ≤ 2560) (v1 : Int32) (v2 : Int32) : wpX_ban (fun r u' => wpY_ban (fun r' v' => r' = r ∧ i_Rel (k + 5) u' v') v v1 (lw_bz v2)) u v1 (lw_bz v2) := by
  refine rl_el (P := fun u v => wpX_ban (fun r u' => wpY_ban (fun r' v' => r' = r ∧ i_Rel (k + 5) u' v') v v1 (lw_bz v2)) u v1 (lw_bz v2)) I ?_
  intro T B tip par H W G s q cx cy pd sn rc mi tx pa hg wk co ba sp mn wy pr ws th dn hr
  obtain ⟨E, hw, hW, X, K, C, R, hba, ht, NT⟩ := hr.1
  obtain ⟨vt, g, eg, ag⟩ := hr.2
  have hB := E.1
  have P := E.2.2.2.1
  unfold wpX_ban wpY_ban
  dsimp only
  rcases rl_ixB hB.2 v1 with h | ⟨j, hj, e⟩
  · by_cases a1 : v1 < 1
    · exact br_t a1 (rl_yisn h (br_t rfl ⟨rfl, rl_in hr⟩))
    · have a2 : ¬ v1 < nI B := by
        rcases h with h | h
        · exact absurd (Int32.lt_trans h (by decide)) a1
        · exact Int32.not_lt.mpr h
      exact br_f a1 (br_f a2 (rl_yisn h (br_t rfl ⟨rfl, rl_in hr⟩)))
  · subst e
    by_cases z : j = 0
    · subst z
      exact br_t (by decide) (rl_yisb hB.2 hj (br_f rl_n0 (br_t rfl ⟨rfl, rl_in hr⟩)))
    · have ej : (nI j).toNatClampNeg = j := nI_clamp (by omega)
      have hi : vp_in (nI j) 21 := vp_in_nI (by omega) (by decide)
      have a1 : ¬ nI j < 1 := nI_nlt (b := 1) (by omega) (by omega)
      have a2 : nI j < nI B := nI_lt hj (by omega)
      have a3 : ¬ nI j = 0 := nI_ne0 (by omega) (by omega)
      have hba' : upd ba j (vp_nar .boolean (lw_bz v2)) 0 = 0 ∧ ∀ i, B ≤ i → upd ba j (vp_nar .boolean (lw_bz v2)) i = 0 := by
        refine ⟨?_, fun i h => ?_⟩
        · rw [pk_un (by omega)]; exact hba.1
        · rw [pk_un (by omega)]; exact hba.2 i h
      have X30 : ∀ (post : Int32 → SX → Prop) (z : Int32), (∀ F gF s' sp' mn' wy', rl_best B (rl_V par (upd ba j (vp_nar .boolean (lw_bz v2))) G) W tip F → G F = some gF → rl_ag gF s' → rl_NT B par G sp' mn' → post z (nI T, nI B, nI F, nI F, s'.1, s'.2.1, cx, cy, pd, sn, rc, pa, hg, mi, tx, wk, co, upd ba j (vp_nar .boolean (lw_bz v2)), s'.2.2.1, s'.2.2.2, sp', mn', wy')) → wX_ban_30 post (nI j) (lw_bz v2) z (nI T) (nI B) (nI tip) (nI tip) s.1 s.2.1 cx cy pd sn rc pa hg mi tx wk co ba s.2.2.1 s.2.2.2 sp mn wy := fun post z hp => by
        unfold wX_ban_30
        rw [ej]
        exact ⟨hi, nm_e (rl_xch E X hw C hW K hba'.1 ht NT ht eg ag hp)⟩
      have Y29 : ∀ (post : Int32 → SY → Prop) (z : Int32), (∀ F th am ow dn, rl_best B (rl_V par (upd ba j (vp_nar .boolean (lw_bz v2))) G) W tip F → post z (nI T, nI B, nI F, cx, cy, pd, sn, rc, pr, mi, ws, tx, upd ba j (vp_nar .boolean (lw_bz v2)), th, am, ow, dn)) → wY_ban_29 post (nI j) (lw_bz v2) z (nI T) (nI B) (nI tip) cx cy pd sn rc pr mi ws tx ba th q.2.2.1 q.2.2.2 dn := fun post z hp => by
        unfold wY_ban_29
        rw [ej]
        exact ⟨hi, nm_e (rl_ych E R hW hba'.1 ht hp)⟩
      rw [ej]
      refine br_f a1 (br_t a2 ⟨hi, ?_⟩)
      by_cases y : ba j = 0
      · refine br_t y (X30 _ 0 (fun F gF s' sp' mn' wy' bF eF agF NF => ?_))
        refine rl_yisb hB.2 hj (br_f rl_n0 (br_f a3 ⟨hi, br_t y (Y29 _ 0 (fun F' th am ow dn bF' => ⟨rfl, ?_⟩))⟩))
        have eq := rl_best_u bF bF'
        subst eq
        exact rl_in (q := (0, 0, am, ow)) ⟨⟨E, hw, hW, X, K, C, R, hba', bF.1, NF⟩, bF.2.1, gF, eF, agF⟩
      · refine br_f y (X30 _ 1 (fun F gF s' sp' mn' wy' bF eF agF NF => ?_))
        refine rl_yisb hB.2 hj (br_f rl_n0 (br_f a3 ⟨hi, br_f y (Y29 _ 1 (fun F' th am ow dn bF' => ⟨rfl, ?_⟩))⟩))
        have eq := rl_best_u bF bF'
        subst eq
        exact rl_in (q := (0, 0, am, ow)) ⟨⟨E, hw, hW, X, K, C, R, hba', bF.1, NF⟩, bF.2.1, gF, eF, agF⟩
end
section
/-! a new block: the ghosts extended -/
def rl_ex {α : Type} (f : Nat → α) (B : Nat) (x : α) : Nat → α := fun i => if i = B then x else f i
theorem rl_exs {α : Type} {f : Nat → α} {B : Nat} {x : α} : rl_ex f B x B = x := if_pos rfl
theorem rl_exn {α : Type} {f : Nat → α} {B i : Nat} {x : α} (h : i ≠ B) : rl_ex f B x i = f i := if_neg h
section
variable {T B tip : Nat} {par H W : Nat → Nat} {G : Nat → Option rl_PS} {s q : rl_PS} {cx cy pd sn rc mi tx pa hg wk co ba : Nat → Int32} {sp mn : Nat → Int64} {wy pr ws th dn : Nat → Int32} {p w : Nat} {m x4 x5 : Int32}
theorem rl_EN_b (E : rl_EN T B par G cx cy pd sn rc mi tx) (hB : B < 21) (hp : p < B) (h4 : x4 = -1 ∨ ∃ k, k < T ∧ x4 = nI k) (h5 : x5 = -1 ∨ ∃ k, k < T ∧ x5 = nI k) : rl_EN T (B + 1) (rl_ex par B p) (rl_ex G B ((G p).bind (fun s => rl_stp cx cy pd sn rc (upd mi B m) (upd (upd tx (B * 2) x4) (B * 2 + 1) x5) s B))) cx cy pd sn rc (upd mi B m) (upd (upd tx (B * 2) x4) (B * 2 + 1) x5) := by
  obtain ⟨hB1, TW, BW, P, g0, G0, GS⟩ := E
  have st : ∀ i, i < B → ∀ s, rl_stp cx cy pd sn rc (upd mi B m) (upd (upd tx (B * 2) x4) (B * 2 + 1) x5) s i = rl_stp cx cy pd sn rc mi tx s i := fun i hi s => by
    refine rl_stp_bk (pk_un (by omega)) ?_ ?_
    · rw [pk_un (by omega), pk_un (by omega)]
    · rw [pk_un (by omega), pk_un (by omega)]
  refine ⟨⟨by omega, by omega⟩, TW, fun i hi => ?_, ⟨?_, fun i hi => ?_⟩, ?_, ?_, fun i h0 h1 => ?_⟩
  · by_cases z1 : i = B * 2 + 1
    · subst z1
      rw [pk_us]
      exact h5
    · rw [pk_un z1]
      by_cases z2 : i = B * 2
      · subst z2
        rw [pk_us]
        exact h4
      · rw [pk_un z2]
        exact BW i (by omega)
  · rw [rl_exn (by omega)]
    exact P.1
  · by_cases z : i = B
    · subst z
      rw [rl_exs]
      exact hp
    · rw [rl_exn z]
      exact P.2 i hi
  · rw [rl_exn (by omega)]
    exact g0
  · rw [rl_exn (by omega), st 0 (by omega)]
    exact G0
  · by_cases z : i = B
    · subst z
      rw [rl_exs, rl_exs, rl_exn (by omega)]
    · have hpi := P.2 i h0
      rw [rl_exn z, rl_exn z, rl_exn (by omega), GS i h0 (by omega)]
      exact congrArg _ (funext fun s => (st i (by omega) s).symm)
theorem rl_ext_b (r : rl_R0 T B tip par H W G cx cy pd sn rc mi tx pa hg wk co ba sp mn pr ws) (hB : B < 21) (hp : p < B) (h4 : x4 = -1 ∨ ∃ k, k < T ∧ x4 = nI k) (h5 : x5 = -1 ∨ ∃ k, k < T ∧ x5 = nI k) (w1 : 1 ≤ w) (w2 : w ≤ 15) (m : Int32) : ∃ par' H' W' G', rl_EN T (B + 1) par' G' cx cy pd sn rc (upd mi B m) (upd (upd tx (B * 2) x4) (B * 2 + 1) x5) ∧ rl_HW (B + 1) par' H' ∧ rl_WW (B + 1) par' W' (upd ws B (nI w)) ∧ rl_XE (B + 1) par' H' (upd pa B (nI p)) (upd hg B (nI (H p) + 1)) ∧ (∀ i, i < B + 1 → upd wk B (nI (W p) + nI w) i = nI (W' i)) ∧ (∀ i, i < B + 1 → upd pr B (nI p) i = nI (par' i)) ∧ rl_NT B par' G' sp mn ∧ par' B = p ∧ ∀ i, i < B → G' i = G i := by
  obtain ⟨E, hw, hW, X, K, C, R, hba, ht, NT⟩ := r
  have P := E.2.2.2.1
  have hB1 := E.1
  refine ⟨rl_ex par B p, rl_ex H B (H p + 1), rl_ex W B (W p + w), _, rl_EN_b E hB hp h4 h5, ⟨?_, fun i h0 h1 => ?_⟩, ⟨⟨?_, ?_⟩, fun i h0 h1 => ?_⟩, ⟨?_, fun i h0 h1 => ?_, fun i hi => ?_⟩, fun i hi => ?_, fun i hi => ?_, fun i h0 hi => ?_, rl_exs, fun i hi => rl_exn (by omega)⟩
  · rw [rl_exn (by omega)]
    exact hw.1
  · by_cases z : i = B
    · subst z
      rw [rl_exs, rl_exs, rl_exn (by omega)]
    · have hpi := P.2 i h0
      rw [rl_exn z, rl_exn z, rl_exn (by omega)]
      exact hw.2 i h0 (by omega)
  · rw [rl_exn (by omega)]
    exact hW.1.1
  · rw [pk_un (by omega)]
    exact hW.1.2
  · by_cases z : i = B
    · subst z
      rw [rl_exs, rl_exs, rl_exn (by omega), pk_us]
      exact ⟨by omega, by omega, congrArg nI (by omega)⟩
    · have hpi := P.2 i h0
      rw [rl_exn z, rl_exn z, rl_exn (by omega), pk_un z]
      exact hW.2 i h0 (by omega)
  · rw [pk_un (by omega)]
    exact X.1
  · by_cases z : i = B
    · subst z
      rw [rl_exs, pk_us]
    · rw [rl_exn z, pk_un z]
      exact X.2.1 i h0 (by omega)
  · by_cases z : i = B
    · subst z
      rw [rl_exs, pk_us, nI_1]
    · rw [rl_exn z, pk_un z]
      exact X.2.2 i (by omega)
  · by_cases z : i = B
    · subst z
      rw [rl_exs, pk_us, nI_add]
    · rw [rl_exn z, pk_un z]
      exact K i (by omega)
  · by_cases z : i = B
    · subst z
      rw [rl_exs, pk_us]
    · rw [rl_exn z, pk_un z]
      exact R i (by omega)
  · have hpi := P.2 i h0
    have e1 : rl_ex par B p i = par i := rl_exn (by omega)
    rw [e1, rl_exn (by omega), rl_exn (by omega)]
    exact NT i h0 hi
end
/-- a field of a block's content: one less than five bits -/
theorem rl_fld {T : Nat} (hT : T ≤ 16) (x : Int32) (h : (x &&& 31) - 1 < nI T) : (x &&& 31) - 1 = -1 ∨ ∃ k, k < T ∧ (x &&& 31) - 1 = nI k := by
  obtain ⟨j, hj, e⟩ := pk_andE x (m := 31) 5 (by decide)
  rw [e] at h ⊢
  cases j with
  | zero => exact Or.inl (by decide)
  | succ j =>
    rw [nI_pred] at h ⊢
    exact Or.inr ⟨j, (nI_ltI (by omega) (by omega)).mp h, rfl⟩
theorem rl_wgt (x : Int32) (h : ¬ x &&& 15 = 0) : ∃ w, 1 ≤ w ∧ w ≤ 15 ∧ x &&& 15 = nI w := by
  obtain ⟨j, hj, e⟩ := pk_andE x (m := 15) 4 (by decide)
  rw [e] at h ⊢
  refine ⟨j, ?_, by omega, rfl⟩
  rcases Nat.eq_zero_or_pos j with z | z
  · subst z
    exact absurd rfl h
  · exact z
end
section
/-! block -/
section
variable {tn bn tp ap : Int32} {cx cy pd sn rc pa hg mi tx wk co ba : Nat → Int32} {sp mn : Nat → Int64} {wy : Nat → Int32} {s : rl_PS} {par H W : Nat → Nat} {ws : Nat → Int32} {G : Nat → Option rl_PS} {T B N a b c : Nat} {g gp : rl_PS}
theorem rl_x217 {post : Int32 → SX → Prop} {tip : Nat} {x7 : Int32} (E : rl_EN T B par G cx cy pd sn rc mi tx) (X : rl_XE B par H pa hg) (hw : rl_HW B par H) (C : ∀ i, i < B → co i = rl_b01 (G i).isSome) (hW : rl_WW B par W ws) (K : ∀ i, i < B → wk i = nI (W i)) (h0 : ba 0 = 0) (ht : tip < B) (NT : rl_NT B par G sp mn) (ha : a < B) (eg : G a = some g) (ag : rl_ag g s) (hp : ∀ F gF s' sp' mn' wy', rl_best B (rl_V par ba G) W tip F → G F = some gF → rl_ag gF s' → rl_NT B par G sp' mn' → post x7 (tn, nI B, nI F, nI F, s'.1, s'.2.1, cx, cy, pd, sn, rc, pa, hg, mi, tx, wk, co, ba, s'.2.2.1, s'.2.2.2, sp', mn', wy')) : wX_block_217 post x7 tn (nI B) (nI tip) (nI a) s.1 s.2.1 cx cy pd sn rc pa hg mi tx wk co ba s.2.2.1 s.2.2.2 sp mn wy := by
  unfold wX_block_217
  exact rl_xch E X hw C hW K h0 ht NT ha eg ag hp
theorem rl_NT_n {sp mn : Nat → Int64} (h : rl_NT B par G sp mn) (e : G B = none) : rl_NT (B + 1) par G sp mn := by
  intro i h0 hi q eq qp eqp
  by_cases z : i = B
  · subst z
    rw [e] at eq
    cases eq
  · exact h i h0 (by omega) q eq qp eqp
theorem rl_co_u {x : Int32} (C : ∀ i, i < B → co i = rl_b01 (G i).isSome) (e : x = rl_b01 (G B).isSome) : ∀ i, i < B + 1 → upd co B x i = rl_b01 (G i).isSome := by
  intro i hi
  by_cases z : i = B
  · subst z
    rw [pk_us]
    exact e
  · rw [pk_un z]
    exact C i (by omega)
end
theorem i_vc_block {k : Nat} {u : SX} {v : SY} (I : i_Rel k u v) (hk : k + 5 ≤ 2560) (v1 : Int32) (v2 : Int32) (v3 : Int32) : wpX_block (fun r u' => wpY_block (fun r' v' => r' = r ∧ i_Rel (k + 5) u' v') v v1 v2 v3) u v1 v2 v3 := by
  refine rl_el (P := fun u v => wpX_block (fun r u' => wpY_block (fun r' v' => r' = r ∧ i_Rel (k + 5) u' v') v v1 v2 v3) u v1 v2 v3) I ?_
  intro T B tip par H W G s q cx cy pd sn rc mi tx pa hg wk co ba sp mn wy pr ws th dn hr
  have r0 := hr.1
  obtain ⟨E, hw, hW, X, K, C, R, hba, ht, NT⟩ := hr.1
  obtain ⟨vt, g, eg, ag⟩ := hr.2
  have hB := E.1
  have hT := E.2.1.1
  have P := E.2.2.2.1
  unfold wpX_block
  dsimp only
  rcases rl_ixB hB.2 v1 with h | ⟨p, hp, e⟩
  · have Y5 : ∀ z : SX, z = (nI T, nI B, nI tip, nI tip, s.1, s.2.1, cx, cy, pd, sn, rc, pa, hg, mi, tx, wk, co, ba, s.2.2.1, s.2.2.2, sp, mn, wy) → wpY_block (fun r' v' => r' = -5 ∧ i_Rel (k + 5) z v') (nI T, nI B, nI tip, cx, cy, pd, sn, rc, pr, mi, ws, tx, ba, th, q.2.2.1, q.2.2.2, dn) v1 v2 v3 := fun z ez => by
      subst ez
      unfold wpY_block
      dsimp only
      exact nm_e (nm_e (nm_e (rl_yisn h (br_t rfl ⟨rfl, rl_in hr⟩))))
    by_cases a1 : v1 < 0
    · exact br_t a1 (Y5 _ rfl)
    · exact br_f a1 (br_f (Int32.not_lt.mpr (h.resolve_left a1)) (Y5 _ rfl))
  subst e
  have a1 : ¬ nI p < 0 := nI_pos (by omega)
  have a2 : nI p < nI B := nI_lt hp (by omega)
  refine br_f a1 (br_t a2 ?_)
  by_cases b1 : v2 < 0
  · refine br_t b1 ?_
    unfold wpY_block
    dsimp only
    exact nm_e (nm_e (nm_e (rl_yisb hB.2 hp (br_f rl_n0 (br_t b1 ⟨rfl, rl_in hr⟩)))))
  refine br_f b1 ?_
  by_cases b2 : v2 ≤ 7
  case neg =>
    refine br_f b2 ?_
    unfold wpY_block
    dsimp only
    exact nm_e (nm_e (nm_e (rl_yisb hB.2 hp (br_f rl_n0 (br_f b1 (br_f b2 ⟨rfl, rl_in hr⟩))))))
  have f4 := rl_fld hT v3
  have f5 := rl_fld hT (v3 >>> ((5 : Int32) &&& 31))
  have f6 := rl_wgt (v3 >>> ((10 : Int32) &&& 31))
  obtain ⟨x4, e4⟩ : ∃ x, (v3 &&& 31) - 1 = x := ⟨_, rfl⟩
  obtain ⟨x5, e5⟩ : ∃ x, ((v3 >>> ((5 : Int32) &&& 31)) &&& 31) - 1 = x := ⟨_, rfl⟩
  obtain ⟨x6, e6⟩ : ∃ x, (v3 >>> ((10 : Int32) &&& 31)) &&& 15 = x := ⟨_, rfl⟩
  rw [e4] at f4
  rw [e5] at f5
  rw [e6] at f6
  refine br_t b2 (nm_r e4 (nm_r e5 (nm_r e6 ?_)))
  by_cases c4 : nI T ≤ x4
  · refine br_t c4 ?_
    unfold wpY_block
    dsimp only
    exact nm_r e4 (nm_r e5 (nm_r e6 (rl_yisb hB.2 hp (br_f rl_n0 (br_f b1 (br_t b2 (br_t c4 ⟨rfl, rl_in hr⟩)))))))
  refine br_f c4 ?_
  by_cases c5 : x5 < nI T
  case neg =>
    refine br_f c5 ?_
    unfold wpY_block
    dsimp only
    exact nm_r e4 (nm_r e5 (nm_r e6 (rl_yisb hB.2 hp (br_f rl_n0 (br_f b1 (br_t b2 (br_f c4 (br_f c5 ⟨rfl, rl_in hr⟩))))))))
  refine br_t c5 ?_
  by_cases c6 : x6 = 0
  · refine br_t c6 ?_
    unfold wpY_block
    dsimp only
    exact nm_r e4 (nm_r e5 (nm_r e6 (rl_yisb hB.2 hp (br_f rl_n0 (br_f b1 (br_t b2 (br_f c4 (br_t c5 (br_t c6 ⟨rfl, rl_in hr⟩)))))))))
  refine br_f c6 ?_
  by_cases c7 : B < 21
  case neg =>
    have eB : B = 21 := by omega
    subst eB
    refine br_f (by decide) ?_
    unfold wpY_block
    dsimp only
    exact nm_r e4 (nm_r e5 (nm_r e6 (rl_yisb hB.2 hp (br_f rl_n0 (br_f b1 (br_t b2 (br_f c4 (br_t c5 (br_f c6 (br_t (by decide) ⟨rfl, rl_in hr⟩))))))))))
  refine br_t (nI_lt (b := 21) c7 (by decide)) ?_
  obtain ⟨w, w1, w2, ew⟩ := f6 c6
  subst ew
  obtain ⟨par', H', W', G', E', hw', hW', X', K', R', NTB, epB, eG⟩ := rl_ext_b r0 c7 hp (f4 (Int32.not_le.mp c4)) (f5 c5) w1 w2 v2
  have eBc : (nI B).toNatClampNeg = B := nI_clamp (by omega)
  have epc : (nI p).toNatClampNeg = p := nI_clamp (by omega)
  have e2c : (nI (B * 2)).toNatClampNeg = B * 2 := nI_clamp (by omega)
  have e3c : (nI (B * 2 + 1)).toNatClampNeg = B * 2 + 1 := nI_clamp (by omega)
  have iB : vp_in (nI B) 21 := vp_in_nI c7 (by decide)
  have ip : vp_in (nI p) 21 := vp_in_nI (by omega) (by decide)
  have i2 : vp_in (nI (B * 2)) 42 := vp_in_nI (by omega) (by decide)
  have i3 : vp_in (nI (B * 2 + 1)) 42 := vp_in_nI (by omega) (by decide)
  have hba0 : upd ba B (vp_nar .boolean 0) = ba := by
    funext i
    by_cases z : i = B
    · subst z
      rw [pk_us, hba.2 i (by omega)]
      rfl
    · rw [pk_un z]
  have FIN : ∀ F gF s' sp' mn' wy' co', (∀ i, i < B + 1 → co' i = rl_b01 (G' i).isSome) → rl_best (B + 1) (rl_V par' ba G') W' tip F → G' F = some gF → rl_ag gF s' → rl_NT (B + 1) par' G' sp' mn' → wpY_block (fun r' v' => r' = nI B ∧ i_Rel (k + 5) (nI T, nI (B + 1), nI F, nI F, s'.1, s'.2.1, cx, cy, pd, sn, rc, upd pa B (nI p), upd hg B (nI (H p) + 1), upd mi B v2, upd (upd tx (B * 2) x4) (B * 2 + 1) x5, upd wk B (nI (W p) + nI w), co', ba, s'.2.2.1, s'.2.2.2, sp', mn', wy') v') (nI T, nI B, nI tip, cx, cy, pd, sn, rc, pr, mi, ws, tx, ba, th, q.2.2.1, q.2.2.2, dn) (nI p) v2 v3 := fun F gF s' sp' mn' wy' co' C' bF eF agF NF => by
    unfold wpY_block
    dsimp only
    rw [rl_t2, nI_1 (B * 2), eBc, e2c, e3c, hba0]
    have n21 : ¬ nI B = 21 := fun z => by
      have := (nI_eq (b := 21) (by omega) (by decide)).mp z
      omega
    refine nm_r e4 (nm_r e5 (nm_r e6 (rl_yisb hB.2 hp (br_f rl_n0 (br_f b1 (br_t b2 (br_f c4 (br_t c5 (br_f c6 (br_f n21 ?_))))))))))
    refine ⟨iB, nm_e ⟨iB, nm_e ⟨iB, nm_e ⟨i2, nm_e ⟨i3, nm_e ⟨iB, nm_e (nm_r (nI_1 B) ?_)⟩⟩⟩⟩⟩⟩
    refine rl_ych E' R' hW' hba.1 (by omega) (fun F' th am ow dn bF' => ⟨nI_pred B, ?_⟩)
    have eq := rl_best_u bF bF'
    subst eq
    exact rl_in (q := (0, 0, am, ow)) ⟨⟨E', hw', hW', X', K', C', R', ⟨hba.1, fun i h => hba.2 i (by omega)⟩, bF.1, NF⟩, bF.2.1, gF, eF, agF⟩
  have C0 : ∀ i, i < B → co i = rl_b01 (G' i).isSome := fun i hi => by rw [eG i hi]; exact C i hi
  have htip : G' tip = some g := by rw [eG tip ht]; exact eg
  have eGB := E'.2.2.2.2.2.2 B (by omega) (by omega)
  rw [epB] at eGB
  have ecp : upd co B (vp_nar .boolean 0) p = rl_b01 (G' p).isSome := by
    rw [pk_un (by omega)]
    exact C0 p hp
  rw [rl_t2, nI_1 (B * 2), eBc, epc, e2c, e3c, X.2.2 p hp, K p hp]
  refine ⟨iB, nm_e ⟨ip, iB, nm_e ⟨iB, nm_e ⟨i2, nm_e ⟨i3, nm_e ⟨ip, iB, nm_e (nm_r (nI_1 B) ⟨iB, nm_e ⟨ip, ?_⟩⟩)⟩⟩⟩⟩⟩⟩
  rw [ecp]
  cases eGp : G' p with
  | none =>
    rw [eGp] at eGB
    have eGB' : G' B = none := eGB
    have C1 := rl_co_u (x := vp_nar .boolean 0) C0 (by rw [eGB']; rfl)
    exact br_t rfl (rl_x217 E' X' hw' C1 hW' K' hba.1 (by omega) (rl_NT_n NTB eGB') (by omega) htip ag (fun F gF s' sp' mn' wy' bF eF agF NF => FIN F gF s' sp' mn' wy' _ C1 bF eF agF NF))
  | some gp =>
    rw [eGp] at eGB
    have eGB' : G' B = rl_stp cx cy pd sn rc (upd mi B v2) (upd (upd tx (B * 2) x4) (B * 2 + 1) x5) gp B := eGB
    refine br_f rl_n0 (rl_xgo E' X' hw' NTB (by omega) ht hp htip ag eGp (fun s1 sp1 mn1 wy1 ag1 NT1 => ?_))
    obtain ⟨wg, fr⟩ := rl_G_fr E' (b := B) (by omega) (by omega) (by rw [epB]; exact eGp)
    have O := rl_stp_ag (b := B) (mi := upd mi B v2) (pd := pd) (sn := sn) (rc := rc) (by omega) E'.2.1 wg (rl_tx0 E' (by omega)) (rl_tx1 E' (by omega)) ag1
    rw [← eGB'] at O
    refine rl_xcon (s := s1) E'.2.1 c7 (rl_ag_wf ag1 wg) (by rw [ag1.2.1]; exact fr) (rl_tx0 E' (by omega)) (rl_tx1 E' (by omega)) (fun s2 es => ⟨iB, ?_⟩) (fun es am ow ha => ⟨iB, ?_⟩)
    · rcases O with ⟨_, o⟩ | ⟨r, r', o', o, agr⟩
      · rw [es] at o
        cases o
      · rw [es] at o
        cases o
        refine nm_e ?_
        have C2 : ∀ i, i < B + 1 → upd (upd co B (vp_nar .boolean 0)) B (vp_nar .boolean 1) i = rl_b01 (G' i).isSome := rl_co_u (fun i hi => by rw [pk_un (by omega)]; exact C0 i hi) (by rw [o']; rfl)
        have N2 := rl_NT_u (N' := B + 1) NT1 (fun i hi => by omega) o' (by rw [epB]; exact eGp) (w1 := s1.1 &&& (s2.1 ^^^ (-1))) (w2 := s2.2.1 &&& (s1.2.1 ^^^ (-1))) (by rw [ag1.1, agr.1]) (by rw [ag1.2.1, agr.2.1])
        exact rl_x217 (s := s2) E' X' hw' C2 hW' K' hba.1 (by omega) N2 (by omega) o' agr (fun F gF s' sp' mn' wy' bF eF agF NF => FIN F gF s' sp' mn' wy' _ C2 bF eF agF NF)
    · rcases O with ⟨o', _⟩ | ⟨r, r', _, o, _⟩
      · refine nm_e ?_
        have C2 : ∀ i, i < B + 1 → upd (upd co B (vp_nar .boolean 0)) B (vp_nar .boolean 0) i = rl_b01 (G' i).isSome := rl_co_u (fun i hi => by rw [pk_un (by omega)]; exact C0 i hi) (by rw [o']; rfl)
        have agp : rl_ag gp (s1.1, s1.2.1, am, ow) := ⟨ag1.1, ag1.2.1, fun c hc hb => by
          have q1 := ha c hc (by rw [ag1.2.1]; exact hb)
          have q2 := ag1.2.2 c hc hb
          exact ⟨q1.1.trans q2.1, q1.2.trans q2.2⟩⟩
        exact rl_x217 (s := (s1.1, s1.2.1, am, ow)) E' X' hw' C2 hW' K' hba.1 (by omega) (rl_NT_n NT1 o') (by omega) eGp agp (fun F gF s' sp' mn' wy' bF eF agF NF => FIN F gF s' sp' mn' wy' _ C2 bF eF agF NF)
      · rw [es] at o
        cases o
end
