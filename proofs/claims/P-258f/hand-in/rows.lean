section
/-! rows of kit/rows (a starting text) -/
theorem pk_us {f : Nat → Int32} {k : Nat} {x : Int32} : upd f k x k = x := if_pos rfl
theorem pk_un {f : Nat → Int32} {k j : Nat} {x : Int32} (h : j ≠ k) : upd f k x j = f j := if_neg h
theorem pk_uLs {f : Nat → Int64} {k : Nat} {x : Int64} : vp_updL f k x k = x := if_pos rfl
theorem pk_uLn {f : Nat → Int64} {k j : Nat} {x : Int64} (h : j ≠ k) : vp_updL f k x j = f j := if_neg h
theorem pk_sub {a b : Nat} (h : b ≤ a) : nI a - nI b = nI (a - b) := by
  obtain ⟨c, rfl⟩ : ∃ c, a = c + b := ⟨a - b, by omega⟩
  rw [← nI_add, Int32.add_sub_cancel, Nat.add_sub_cancel]
theorem pk_le {x y : Int32} {A B : Prop} (a b : Nat) (f : a ≤ b → A) (g : b < a → B) (hx : x = nI a := by rfl) (hy : y = nI b := by rfl) (ha : a < 2 ^ 31 := by omega) (hb : b < 2 ^ 31 := by omega) : (x ≤ y → A) ∧ (¬ x ≤ y → B) := by
  subst hx hy
  rw [nI_leI ha hb]
  exact ⟨f, fun z => g (by omega)⟩
theorem pk_lt {x y : Int32} {A B : Prop} (a b : Nat) (f : a < b → A) (g : b ≤ a → B) (hx : x = nI a := by rfl) (hy : y = nI b := by rfl) (ha : a < 2 ^ 31 := by omega) (hb : b < 2 ^ 31 := by omega) : (x < y → A) ∧ (¬ x < y → B) := by
  subst hx hy
  rw [nI_ltI ha hb]
  exact ⟨f, fun z => g (by omega)⟩
theorem pk_eq {x y : Int32} {A B : Prop} (a b : Nat) (f : a = b → A) (g : a ≠ b → B) (hx : x = nI a := by rfl) (hy : y = nI b := by rfl) (ha : a < 2 ^ 31 := by omega) (hb : b < 2 ^ 31 := by omega) : (x = y → A) ∧ (¬ x = y → B) := by
  subst hx hy
  rw [nI_eq ha hb]
  exact ⟨f, g⟩
theorem pk_in {x : Int32} (n N : Nat) (h : n < N) (hx : x = nI n := by rfl) (hN : N < 2 ^ 31 := by omega) : vp_in x N := by
  subst hx
  exact vp_in_nI h hN
theorem pk_cl {x : Int32} (n : Nat) (hx : x = nI n := by rfl) (h : n < 2 ^ 31 := by omega) : x.toNatClampNeg = n := by
  subst hx
  exact nI_clamp h
theorem pk_tn {n : Nat} (h : n < 2 ^ 32) : (nI n).toBitVec.toNat = n := Nat.mod_eq_of_lt h
theorem pk_shr (a s : Int32) (k : Nat) (hs : (s.toBitVec.smod 32).toNat = k) : (a >>> s).toInt = a.toInt >>> k := by
  show (a.toBitVec.sshiftRight (s.toBitVec.smod 32).toNat).toInt = _
  rw [hs, BitVec.toInt_sshiftRight]
  rfl
theorem pk_charN {q : Nat} (hq : q < 65536) : narrow .char (.int (nI q)) = .int (nI q) ∧ fits .char (.int (nI q)) = true := by
  constructor
  · have e : (nI q).toUInt32.toUInt16.toUInt32.toInt32 = nI q := by
      apply Int32.toBitVec_inj.mp
      apply BitVec.eq_of_toNat_eq
      show (nI q).toUInt32.toUInt16.toUInt32.toNat = q % 2 ^ 32
      rw [UInt16.toNat_toUInt32, UInt32.toNat_toUInt16, show (nI q).toUInt32.toNat = q % 2 ^ 32 from rfl]
      omega
    exact congrArg Value.int e
  · have a : (0 : Int32) ≤ nI q := nI_pos' (by omega)
    have b : nI q ≤ 65535 := nI_le (b := 65535) (by omega) (by decide)
    show (decide ((0 : Int32) ≤ nI q) && decide (nI q ≤ 65535)) = true
    rw [decide_eq_true a, decide_eq_true b]
    rfl
theorem pk_char (x : Int32) : (x.toUInt32 % 65536).toInt32 = nI (x.toBitVec.toNat % 65536) := by
  apply Int32.toBitVec_inj.mp
  apply BitVec.eq_of_toNat_eq
  rw [pk_tn (by omega)]
  show (x.toUInt32 % 65536).toNat = _
  rw [UInt32.toNat_mod]
  rfl
theorem pk_nc (x : Int32) : narrow .char (.int (x.toUInt32 % 65536).toInt32) = .int (x.toUInt32 % 65536).toInt32 := by
  rw [pk_char]
  exact (pk_charN (Nat.mod_lt _ (by decide))).1
theorem pk_vb (z : Int32) : vp_nar .byte z.toInt8.toInt32 = z.toInt8.toInt32 := by rw [vp_nar_byte]; simp
theorem pk_vs (z : Int32) : vp_nar .short z.toInt16.toInt32 = z.toInt16.toInt32 := by rw [vp_nar_short]; simp
theorem pk_vc (z : Int32) : vp_nar .char (z.toUInt32 % 65536).toInt32 = (z.toUInt32 % 65536).toInt32 := Value.int.inj (pk_nc z)
def bt (x : Int32) (i : Nat) : Bool := x.toBitVec.getLsbD i
theorem b_ext {x y : Int32} (h : ∀ i, i < 32 → bt x i = bt y i) : x = y := Int32.toBitVec_inj.mp (BitVec.eq_of_getLsbD_eq (fun i hi => h i hi))
theorem b_or (x y : Int32) (i : Nat) : bt (x ||| y) i = (bt x i || bt y i) := by unfold bt; rw [Int32.toBitVec_or, BitVec.getLsbD_or]
theorem b_and (x y : Int32) (i : Nat) : bt (x &&& y) i = (bt x i && bt y i) := by unfold bt; rw [Int32.toBitVec_and, BitVec.getLsbD_and]
theorem b_big {x : Int32} {i : Nat} (h : 32 ≤ i) : bt x i = false := BitVec.getLsbD_of_ge _ _ h
theorem b_65535 (i : Nat) : bt 65535 i = decide (i < 16) := by
  rcases Nat.lt_or_ge i 32 with h | h
  · exact (by decide +kernel : ∀ i, i < 32 → bt 65535 i = decide (i < 16)) i h
  · rw [b_big h, decide_eq_false (by omega)]
theorem s_l : ∀ n, n < 32 → ((nI n &&& 31).toBitVec.smod 32).toNat = n := by decide +kernel
theorem b_shl (n : Nat) (hn : n < 32) (x : Int32) {i : Nat} (hi : i < 32) : bt (x <<< (nI n &&& 31)) i = (decide (n ≤ i) && bt x (i - n)) := by
  unfold bt
  rw [Int32.toBitVec_shiftLeft]
  show (x.toBitVec <<< ((nI n &&& 31).toBitVec.smod 32).toNat).getLsbD i = _
  rw [s_l n hn, BitVec.getLsbD_shiftLeft]
  rcases Nat.lt_or_ge i n with h | h
  · simp [h, Nat.not_le.mpr h]
  · simp [hi, h, Nat.not_lt.mpr h]
theorem b_sshr (n : Nat) (hn : n < 32) (x : Int32) {i : Nat} (hi : i < 32) : bt (x >>> (nI n &&& 31)) i = if n + i < 32 then bt x (n + i) else bt x 31 := by
  unfold bt
  rw [Int32.toBitVec_shiftRight]
  show (x.toBitVec.sshiftRight ((nI n &&& 31).toBitVec.smod 32).toNat).getLsbD i = _
  rw [s_l n hn, BitVec.getLsbD_sshiftRight, BitVec.msb_eq_getLsbD_last]
  simp [hi]
theorem b_shl16 (x : Int32) {i : Nat} (hi : i < 32) : bt (x <<< ((16 : Int32) &&& 31)) i = (decide (16 ≤ i) && bt x (i - 16)) := b_shl 16 (by omega) x hi
theorem em_w (v : Int32) : ∃ w : Nat, w < 65536 ∧ (v.toUInt32 % 65536).toInt32 = nI w ∧ v &&& 65535 = nI w := by
  have hr := lw_u16_r v
  have h0 : (0 : Int32).toInt = 0 := by decide
  obtain ⟨w, h1, h2⟩ := nI_of (x := lw_u16 v) (by rw [Int32.lt_iff_toInt_lt]; omega)
  have h3 : (v.toUInt32 % 65536).toInt32 = nI w := h2
  rw [h2, nI_toInt h1] at hr
  exact ⟨w, by omega, h3, by rw [← lg_i2c_mask, ← lg_i2c_nf, h3]⟩
end
section
/-- the upper half of a priority, signed -/
def hk_hi (p : Int32) : Int32 := (p >>> ((16 : Int32) &&& 31)).toInt16.toInt32
/-- the lower half of a priority, unsigned -/
def hk_lo (p : Int32) : Int32 := (p.toUInt32 % 65536).toInt32
theorem hk_shrT (p : Int32) : (p >>> ((16 : Int32) &&& 31)).toInt = p.toInt / 65536 := by
  rw [pk_shr _ _ 16 (by decide), Int.shiftRight_eq_div_pow]
  rfl
theorem hk_hiE (p : Int32) : hk_hi p = p >>> ((16 : Int32) &&& 31) := by
  have e := hk_shrT p
  have b1 := p.le_toInt
  have b2 := p.toInt_lt
  exact lg_i2s_small (by omega) (by omega)
theorem hk_hiT (p : Int32) : (hk_hi p).toInt = p.toInt / 65536 := by
  rw [hk_hiE, hk_shrT]
theorem hk_loT (p : Int32) : (hk_lo p).toInt = p.toInt % 65536 := by
  unfold hk_lo
  rw [pk_char, nI_toInt (by omega)]
  have e : p.toInt = p.toBitVec.toInt := rfl
  rw [e, BitVec.toInt_eq_toNat_cond]
  have hb := p.toBitVec.isLt
  generalize p.toBitVec.toNat = w at *
  split <;> omega
theorem hk_loE (p : Int32) : hk_lo p = p &&& 65535 := by
  obtain ⟨w, _, h1, h2⟩ := em_w p
  unfold hk_lo
  rw [h1, h2]
theorem hk_sshr16 (x : Int32) {i : Nat} (hi : i < 32) : bt (x >>> ((16 : Int32) &&& 31)) i = if 16 + i < 32 then bt x (16 + i) else bt x 31 := b_sshr 16 (by omega) x hi
/-- the two halves give the priority back -/
theorem hk_pack (p : Int32) : (hk_hi p <<< ((16 : Int32) &&& 31)) ||| hk_lo p = p := by
  apply b_ext
  intro i hi
  rw [b_or, b_shl16 _ hi, hk_hiE, hk_loE, b_and, b_65535]
  rcases Nat.lt_or_ge i 16 with h | h
  · rw [decide_eq_false (by omega), decide_eq_true h]
    simp
  · rw [decide_eq_true h, decide_eq_false (by omega), hk_sshr16 p (i := i - 16) (by omega), if_pos (by omega), show 16 + (i - 16) = i by omega]
    simp
theorem hk_narHi (p : Int32) : vp_nar .short (hk_hi p) = hk_hi p := pk_vs _
theorem hk_narLo (p : Int32) : vp_nar .char (hk_lo p) = hk_lo p := pk_vc _
theorem hk_hiLt {p q : Int32} (h : hk_hi p < hk_hi q) : p < q := by
  rw [Int32.lt_iff_toInt_lt, hk_hiT, hk_hiT] at h
  rw [Int32.lt_iff_toInt_lt]
  omega
theorem hk_hiGt {p q : Int32} (h : ¬ hk_hi p < hk_hi q) (h2 : ¬ hk_hi q = hk_hi p) : q < p := by
  rw [Int32.lt_iff_toInt_lt, hk_hiT, hk_hiT] at h
  rw [← Int32.toInt_inj, hk_hiT, hk_hiT] at h2
  rw [Int32.lt_iff_toInt_lt]
  omega
theorem hk_loLt {p q : Int32} (e : hk_hi q = hk_hi p) (h : hk_lo p < hk_lo q) : p < q := by
  rw [← Int32.toInt_inj, hk_hiT, hk_hiT] at e
  rw [Int32.lt_iff_toInt_lt, hk_loT, hk_loT] at h
  rw [Int32.lt_iff_toInt_lt]
  omega
theorem hk_loGt {p q : Int32} (e : hk_hi q = hk_hi p) (h : ¬ hk_lo p < hk_lo q) (h2 : ¬ hk_lo q = hk_lo p) : q < p := by
  rw [← Int32.toInt_inj, hk_hiT, hk_hiT] at e
  rw [Int32.lt_iff_toInt_lt, hk_loT, hk_loT] at h
  rw [← Int32.toInt_inj, hk_loT, hk_loT] at h2
  rw [Int32.lt_iff_toInt_lt]
  omega
theorem hk_both {p q : Int32} (e : hk_hi q = hk_hi p) (h : hk_lo q = hk_lo p) : q = p := by
  rw [← hk_pack q, ← hk_pack p, e, h]
theorem hk_i0 {n : Nat} (h : n < 2 ^ 31) : nI n = 0 ↔ n = 0 := nI_eq (b := 0) h (by decide)
theorem hk_l0 {n : Nat} (h : n < 2 ^ 31) : lN n = 0 ↔ n = 0 := lN_eq (b := 0) h (by decide)
theorem hk_lpred (n : Nat) : lN (n + 1) - 1 = lN n := lN_sub (a := n + 1) (b := 1) (by omega)
theorem hk_cl {n : Nat} (h : n < 4) : (nI n).toNatClampNeg = n := nI_clamp (by omega)
theorem hk_in {n : Nat} (h : n < 4) : vp_in (nI n) 4 := vp_in_nI h (by omega)
theorem hk_in5 {n : Nat} (h : n < 5) : vp_in (nI n) 5 := vp_in_nI h (by omega)
end
section
/-- from h the links run through the slots of the list and end at d -/
def hk_LS (nx : Nat → Int32) : Int32 → List Nat → Int32 → Prop
  | h, [], d => h = d
  | h, s :: r, d => h = nI s ∧ hk_LS nx (nx s) r d
/-- the last slot of the list, or p -/
def hk_pv : Int32 → List Nat → Int32
  | p, [] => p
  | _, s :: r => hk_pv (nI s) r
theorem hk_pvA (a : Nat) : ∀ (A : List Nat) (p : Int32), hk_pv p (A ++ [a]) = nI a := by
  intro A
  induction A with
  | nil => exact fun _ => rfl
  | cons s r ih => exact fun _ => ih (nI s)
theorem hk_LSup {nx : Nat → Int32} {s : Nat} {x : Int32} : ∀ {A : List Nat} {h d : Int32}, s ∉ A → hk_LS nx h A d → hk_LS (upd nx s x) h A d := by
  intro A
  induction A with
  | nil => exact fun _ hl => hl
  | cons a r ih =>
    intro h d hs hl
    have ha : a ≠ s := fun e => hs (by rw [e]; exact List.mem_cons_self)
    have hr : s ∉ r := fun e => hs (List.mem_cons_of_mem _ e)
    refine ⟨hl.1, ?_⟩
    rw [pk_un ha]
    exact ih hr hl.2
theorem hk_LSapp {nx : Nat → Int32} {B : List Nat} {d e : Int32} : ∀ {A : List Nat} {h : Int32}, hk_LS nx h A d → hk_LS nx d B e → hk_LS nx h (A ++ B) e := by
  intro A
  induction A with
  | nil =>
    intro h hl hb
    have e1 : h = d := hl
    rw [e1]
    exact hb
  | cons a r ih => exact fun hl hb => ⟨hl.1, ih hl.2 hb⟩
theorem hk_LSset {nx : Nat → Int32} {a : Nat} {x : Int32} : ∀ {A : List Nat} {h d : Int32}, a ∉ A → hk_LS nx h (A ++ [a]) d → hk_LS (upd nx a x) h (A ++ [a]) x := by
  intro A
  induction A with
  | nil =>
    intro h d _ hl
    refine ⟨hl.1, ?_⟩
    rw [pk_us]
    exact rfl
  | cons b r ih =>
    intro h d hs hl
    have ha : b ≠ a := fun e => hs (by rw [e]; exact List.mem_cons_self)
    have hr : a ∉ r := fun e => hs (List.mem_cons_of_mem _ e)
    refine ⟨hl.1, ?_⟩
    rw [pk_un ha]
    exact ih hr hl.2
/-- a link: none, or a slot -/
def hk_sl (d : Int32) : Prop := d = -1 ∨ ∃ b : Nat, b < 4 ∧ d = nI b
theorem hk_slOf {nx : Nat → Int32} {B : List Nat} {d : Int32} (h : hk_LS nx d B (-1)) (h4 : ∀ s, s ∈ B → s < 4) : hk_sl d := by
  cases B with
  | nil => exact Or.inl h
  | cons b r => exact Or.inr ⟨b, h4 b List.mem_cons_self, h.1⟩
theorem hk_narS : ∀ b : Nat, b < 4 → (nI b).toInt16.toInt32 = nI b := by decide +kernel
theorem hk_narM : ((-1 : Int32)).toInt16.toInt32 = -1 := by decide +kernel
theorem hk_nar {d : Int32} (h : hk_sl d) : vp_nar .short d.toInt16.toInt32 = d := by
  rw [pk_vs]
  rcases h with e | ⟨b, hb, e⟩
  · rw [e]; exact hk_narM
  · rw [e]; exact hk_narS b hb
theorem hk_m1lt : (-1 : Int32) < 0 := by decide
theorem hk_m1nle : ¬ (0 : Int32) ≤ -1 := by decide
/-- x in place of g b: as a bag, x comes and g b goes -/
theorem hk_swap {α : Type} (g : Nat → α) (x : α) (b : Nat) : ∀ l : List Nat, l.Nodup → b ∈ l → (x :: l.map g).Perm (g b :: l.map (fun j => if j = b then x else g j)) := by
  intro l
  induction l with
  | nil => exact fun _ h => absurd h List.not_mem_nil
  | cons a r ih =>
    intro hn hb
    rw [List.nodup_cons] at hn
    rw [List.map_cons, List.map_cons]
    by_cases e : a = b
    · subst e
      have hr : r.map (fun j => if j = a then x else g j) = r.map g := by
        apply List.map_congr_left
        intro j hj
        have hne : ¬ j = a := fun e => hn.1 (e ▸ hj)
        exact if_neg hne
      rw [hr, if_pos rfl]
      exact List.Perm.swap _ _ _
    · have hb' : b ∈ r := by
        rcases List.mem_cons.mp hb with e' | h
        · exact absurd e'.symm e
        · exact h
      rw [if_neg e]
      exact (List.Perm.swap (g a) x _).trans (((ih hn.2 hb').cons (g a)).trans (List.Perm.swap (g b) (g a) _))
/-- take b out of 0 .. m by moving m to its place -/
theorem hk_take {α : Type} (g g' : Nat → α) (m b : Nat) (hb : b ≤ m) (h1 : b < m → g' b = g m) (h2 : ∀ j, j < m → j ≠ b → g' j = g j) : ((List.range (m + 1)).map g).Perm (g b :: (List.range m).map g') := by
  rw [List.range_succ, List.map_append]
  refine List.perm_append_comm.trans ?_
  show (g m :: (List.range m).map g).Perm _
  rcases Nat.lt_or_ge b m with h | h
  · refine (hk_swap g (g m) b (List.range m) List.nodup_range (List.mem_range.mpr h)).trans ?_
    rw [List.map_congr_left (g := g')]
    intro j hj
    by_cases e : j = b
    · rw [if_pos e, e, h1 h]
    · rw [if_neg e, h2 j (List.mem_range.mp hj) e]
  · have e : b = m := by omega
    subst e
    rw [List.map_congr_left (f := g) (g := g')]
    intro j hj
    have hj' := List.mem_range.mp hj
    exact (h2 j hj' (by omega)).symm
/-- strictly ahead: greater priority, or equal and later -/
def hk_gt (x y : Int32 × Int32 × Int64) : Prop := y.1 < x.1 ∨ (y.1 = x.1 ∧ y.2.2 < x.2.2)
def hk_ge (x y : Int32 × Int32 × Int64) : Prop := y.1 < x.1 ∨ (y.1 = x.1 ∧ y.2.2 ≤ x.2.2)
theorem hk_gt_ge {x y : Int32 × Int32 × Int64} (h : hk_gt x y) (h2 : hk_ge y x) : False := by
  unfold hk_gt at h
  unfold hk_ge at h2
  rw [Int32.lt_iff_toInt_lt, ← Int32.toInt_inj, Int64.lt_iff_toInt_lt] at h
  rw [Int32.lt_iff_toInt_lt, ← Int32.toInt_inj, Int64.le_iff_toInt_le] at h2
  omega
theorem hk_ge_rf (x : Int32 × Int32 × Int64) : hk_ge x x := Or.inr ⟨rfl, Int64.le_refl _⟩
theorem hk_ge_tr {x y z : Int32 × Int32 × Int64} (h : hk_ge x y) (h2 : hk_ge y z) : hk_ge x z := by
  unfold hk_ge at *
  rw [Int32.lt_iff_toInt_lt, ← Int32.toInt_inj, Int64.le_iff_toInt_le] at *
  omega
/-- the greatest of a strictly falling list is its first -/
theorem hk_max {x y : Int32 × Int32 × Int64} {r : List (Int32 × Int32 × Int64)} (hs : (x :: r).Pairwise hk_gt) (hy : y ∈ x :: r) (h : ∀ z, z ∈ x :: r → hk_ge y z) : y = x := by
  rcases List.mem_cons.mp hy with e | hr
  · exact e
  · exact (hk_gt_ge ((List.pairwise_cons.mp hs).1 y hr) (h x List.mem_cons_self)).elim
end
section
/-- op 0 + .. + op (n - 1) -/
def hk_sm (op : Nat → Nat) : Nat → Nat
  | 0 => 0
  | n + 1 => hk_sm op n + op n
theorem hk_smE {op op' : Nat → Nat} : ∀ n : Nat, (∀ j, j < n → op' j = op j) → hk_sm op' n = hk_sm op n := by
  intro n
  induction n with
  | zero => exact fun _ => rfl
  | succ n ih =>
    intro h
    show hk_sm op' n + op' n = hk_sm op n + op n
    rw [ih (fun j hj => h j (by omega)), h n (by omega)]
theorem hk_sm0 {op : Nat → Nat} : ∀ n : Nat, op 0 ≤ hk_sm op (n + 1) := by
  intro n
  induction n with
  | zero => show op 0 ≤ 0 + op 0; omega
  | succ n ih =>
    show op 0 ≤ hk_sm op (n + 1) + op (n + 1)
    omega
/-- one context of the stack on both sides -/
def hk_C (k : Nat) (o d s : Int32) (f : Int64) (w : Int32) : Prop :=
  f = ((o.toInt64) <<< ((32 : Int32).toInt64 &&& 63)) ||| ((d.toInt64) &&& 4294967295) ∧ ∃ n : Nat, n ≤ k ∧ w = nI n ∧ (s = 0 ↔ n = 0)
/-- the contexts: t of them, op j begun and not ended in each -/
def hk_H (k c t : Nat) (op : Nat → Nat) (a_objId a_descId a_used : Nat → Int32) (a_entry b_frame : Nat → Int64) (b_uses : Nat → Int32) : Prop :=
  t ≤ c ∧ hk_sm op (t + 1) ≤ k ∧ (∀ j, j < t → 1 ≤ op j ∧ a_entry j = lN (hk_sm op (j + 1)) ∧ hk_C k (a_objId j) (a_descId j) (a_used j) (b_frame j) (b_uses j)) ∧ (∀ j, t < j → op j = 0)
/-- the queue: L its slots in order, F the free ones; tm the stamps by slot, pr the priorities by the reference's index -/
def hk_QQ (k c m : Nat) (L F : List Nat) (tm : Nat → Int64) (pr : Nat → Int32) (ck : Nat) (f_head f_free : Int32) (a_vObj a_vPrio a_vNext : Nat → Int32) (g_clock : Int64) (b_hi b_lo b_who : Nat → Int32) (b_when : Nat → Int64) : Prop :=
  L.length = m ∧ m + F.length = c ∧ (L ++ F).Nodup ∧ (∀ s, s ∈ L ++ F → s < 4) ∧ hk_LS a_vNext f_head L (-1) ∧ hk_LS a_vNext f_free F (-1)
  ∧ g_clock = lN ck ∧ ck ≤ k ∧ (∀ s, s ∈ L → tm s ≤ lN ck)
  ∧ (L.map (fun s => (a_vPrio s, a_vObj s, tm s))).Pairwise hk_gt
  ∧ (∀ i, i < m → b_hi i = hk_hi (pr i) ∧ b_lo i = hk_lo (pr i))
  ∧ (L.map (fun s => (a_vPrio s, a_vObj s, tm s))).Perm ((List.range m).map (fun i => (pr i, b_who i, b_when i)))
def hk_Q (k c m : Nat) (f_head f_free : Int32) (a_vObj a_vPrio a_vNext : Nat → Int32) (g_clock : Int64) (b_hi b_lo b_who : Nat → Int32) (b_when : Nat → Int64) : Prop :=
  ∃ (L F : List Nat) (tm : Nat → Int64) (pr : Nat → Int32) (ck : Nat), hk_QQ k c m L F tm pr ck f_head f_free a_vObj a_vPrio a_vNext g_clock b_hi b_lo b_who b_when
/-- the relation at the head of a turn whose first cell is k -/
def i_Rel (k : Nat) (u : SX) (v : SY) : Prop := match u, v with
  | (f_cap, f_top, f_depth, f_head, f_free, f_count, a_objId, a_descId, a_used, a_entry, a_vObj, a_vPrio, a_vNext), (g_cap, g_n, g_m, g_clock, b_open, b_frame, b_uses, b_hi, b_lo, b_who, b_when) =>
    ∃ (c t m : Nat) (op : Nat → Nat), f_cap = nI c ∧ g_cap = nI c ∧ f_top = nI t ∧ g_n = nI t ∧ f_count = nI m ∧ g_m = nI m ∧ f_depth = lN (hk_sm op (t + 1)) ∧ b_open = (fun j => lN (op j)) ∧ 1 ≤ c ∧ c ≤ 4
      ∧ hk_H k c t op a_objId a_descId a_used a_entry b_frame b_uses
      ∧ hk_Q k c m f_head f_free a_vObj a_vPrio a_vNext g_clock b_hi b_lo b_who b_when
theorem hk_Cup {k k' : Nat} {o d s : Int32} {f : Int64} {w : Int32} (hk : k ≤ k') (h : hk_C k o d s f w) : hk_C k' o d s f w := by
  obtain ⟨h1, n, h2, h3⟩ := h
  exact ⟨h1, n, by omega, h3⟩
theorem hk_Hup {k k' c t : Nat} {op : Nat → Nat} {a_objId a_descId a_used : Nat → Int32} {a_entry b_frame : Nat → Int64} {b_uses : Nat → Int32} (hk : k ≤ k') (h : hk_H k c t op a_objId a_descId a_used a_entry b_frame b_uses) : hk_H k' c t op a_objId a_descId a_used a_entry b_frame b_uses := by
  obtain ⟨h1, h2, h3, h4⟩ := h
  exact ⟨h1, by omega, fun j hj => ⟨(h3 j hj).1, (h3 j hj).2.1, hk_Cup hk (h3 j hj).2.2⟩, h4⟩
theorem hk_Qup {k k' c m : Nat} {f_head f_free : Int32} {a_vObj a_vPrio a_vNext : Nat → Int32} {g_clock : Int64} {b_hi b_lo b_who : Nat → Int32} {b_when : Nat → Int64} (hk : k ≤ k') (h : hk_Q k c m f_head f_free a_vObj a_vPrio a_vNext g_clock b_hi b_lo b_who b_when) : hk_Q k' c m f_head f_free a_vObj a_vPrio a_vNext g_clock b_hi b_lo b_who b_when := by
  obtain ⟨L, F, tm, pr, ck, h1, h2, h3, h4, h5, h6, h7, h8, h9, h10⟩ := h
  exact ⟨L, F, tm, pr, ck, h1, h2, h3, h4, h5, h6, h7, by omega, h9, h10⟩
theorem hk_Rup {k k' : Nat} {u : SX} {v : SY} (hk : k ≤ k') (h : i_Rel k u v) : i_Rel k' u v := by
  obtain ⟨f_cap, f_top, f_depth, f_head, f_free, f_count, a_objId, a_descId, a_used, a_entry, a_vObj, a_vPrio, a_vNext⟩ := u
  obtain ⟨g_cap, g_n, g_m, g_clock, b_open, b_frame, b_uses, b_hi, b_lo, b_who, b_when⟩ := v
  obtain ⟨c, t, m, op, h1, h2, h3, h4, h5, h6, h7, h8, h9, h10, hH, hQ⟩ := h
  exact ⟨c, t, m, op, h1, h2, h3, h4, h5, h6, h7, h8, h9, h10, hk_Hup hk hH, hk_Qup hk hQ⟩
theorem i_up {k : Nat} {u : SX} {v : SY} (h : i_Rel k u v) : i_Rel (k + 3) u v := hk_Rup (by omega) h
end
section
section
variable {k c t : Nat} {op : Nat → Nat} {f_cap f_head f_free f_count g_cap g_m : Int32} {g_clock : Int64} {a_objId a_descId a_used a_vObj a_vPrio a_vNext : Nat → Int32} {a_entry b_frame b_when : Nat → Int64} {b_uses b_hi b_lo b_who : Nat → Int32}
/-- X asks for the depth, then whether the hook is busy: together, whether something is begun in the present context -/
theorem hk_act {P R : Prop} (hH : hk_H k c t op a_objId a_descId a_used a_entry b_frame b_uses) (hc : c ≤ 4) (hk : k ≤ 1537) (hp : op t = 0 → P) (hr : ¬ op t = 0 → R) :
    (lN (hk_sm op (t + 1)) = 0 → P) ∧ (¬ lN (hk_sm op (t + 1)) = 0 → wpX_busy (fun r => (r = 0 → R) ∧ (¬ r = 0 → P)) (f_cap, nI t, lN (hk_sm op (t + 1)), f_head, f_free, f_count, a_objId, a_descId, a_used, a_entry, a_vObj, a_vPrio, a_vNext)) := by
  obtain ⟨ht, hs, hj, ho⟩ := hH
  have hs1 : hk_sm op (t + 1) = hk_sm op t + op t := rfl
  refine ⟨fun h0 => hp ?_, fun h0 => ?_⟩
  · rw [hk_l0 (by omega)] at h0
    omega
  · rw [hk_l0 (by omega)] at h0
    unfold wpX_busy
    dsimp only
    cases t with
    | zero =>
      have h1 : hk_sm op 0 = 0 := rfl
      exact br_t (by rw [nI_0]; exact Int32.le_refl _) (br_t rfl (hr (by omega)))
    | succ t' =>
      have he := (hj t' (by omega)).2.1
      rw [nI_pred, nI_clamp (show t' < 2 ^ 31 by omega), he]
      refine br_f (nI_nle (by omega) (by omega)) (br_f (nI_nlt (a := 4) (b := t' + 1) (by omega) (by decide)) ⟨hk_in (by omega), ?_⟩)
      by_cases z : op (t' + 1) = 0
      · have e : hk_sm op (t' + 1) = hk_sm op (t' + 1 + 1) := by omega
        exact br_t (congrArg lN e) (br_f (by decide) (hp z))
      · have e : ¬ lN (hk_sm op (t' + 1)) = lN (hk_sm op (t' + 1 + 1)) := by
          rw [lN_eq (by omega) (by omega)]
          omega
        exact br_f e (br_t rfl (hr z))
def hk_set (op : Nat → Nat) (t x : Nat) : Nat → Nat := fun j => if j = t then x else op j
theorem hk_setS {x : Nat} : hk_set op t x t = x := if_pos rfl
theorem hk_setN {x j : Nat} (h : j ≠ t) : hk_set op t x j = op j := if_neg h
theorem hk_setL {x : Nat} : vp_updL (fun j => lN (op j)) t (lN x) = fun j => lN (hk_set op t x j) := by
  funext j
  unfold vp_updL hk_set
  split <;> rfl
theorem hk_setSm {x : Nat} : hk_sm (hk_set op t x) (t + 1) = hk_sm op t + x := by
  show hk_sm (hk_set op t x) t + hk_set op t x t = _
  rw [hk_setS, hk_smE t (fun j hj => hk_setN (by omega))]
theorem hk_Hset {k' x : Nat} (hk : k ≤ k') (hH : hk_H k c t op a_objId a_descId a_used a_entry b_frame b_uses) (hx : hk_sm op t + x ≤ k') : hk_H k' c t (hk_set op t x) a_objId a_descId a_used a_entry b_frame b_uses := by
  obtain ⟨ht, hs, hj, ho⟩ := hH
  refine ⟨ht, by rw [hk_setSm]; exact hx, fun j h => ?_, fun j h => ?_⟩
  · rw [hk_setN (by omega), hk_smE (j + 1) (fun i hi => hk_setN (by omega))]
    exact ⟨(hj j h).1, (hj j h).2.1, hk_Cup hk (hj j h).2.2⟩
  · rw [hk_setN (by omega)]
    exact ho j h
/-- the reference's sum -/
theorem hk_ynest {post : Int64 → SY → Prop} {y : Nat} (ht : t ≤ 4) (K : post (lN (y + hk_sm op t)) (g_cap, nI t, g_m, g_clock, (fun j => lN (op j)), b_frame, b_uses, b_hi, b_lo, b_who, b_when)) :
    ∀ d j n : Nat, j + d = t → d < n → wY_nest_61 post g_cap (nI t) g_m g_clock (fun j => lN (op j)) b_frame b_uses b_hi b_lo b_who b_when n (lN (y + hk_sm op j)) (nI j) := by
  intro d
  induction d with
  | zero =>
    intro j n hj hn
    obtain ⟨n, rfl⟩ : ∃ n', n = n' + 1 := ⟨n - 1, by omega⟩
    have e : j = t := by omega
    subst e
    exact br_t (Int32.le_refl _) K
  | succ d ih =>
    intro j n hj hn
    obtain ⟨n, rfl⟩ : ∃ n', n = n' + 1 := ⟨n - 1, by omega⟩
    refine br_f (nI_ge (a := j) (b := t) (by omega) (by omega)) ⟨hk_in5 (by omega), nm_r (e' := lN (y + hk_sm op (j + 1))) ?_ (nm_r (nI_1 j) (ih (j + 1) n (by omega) (by omega)))⟩
    show lN (y + hk_sm op j) + lN (op (nI j).toNatClampNeg) = _
    rw [nI_clamp (by omega), lN_add, Nat.add_assoc]
    rfl
theorem hk_ynestE {post : Int64 → SY → Prop} {x : Nat} (ht : t ≤ 4) (K : post (lN (hk_sm op t + x)) (g_cap, nI t, g_m, g_clock, (fun j => lN (hk_set op t x j)), b_frame, b_uses, b_hi, b_lo, b_who, b_when)) :
    ∃ n : Nat, wY_nest_61 post g_cap (nI t) g_m g_clock (fun j => lN (hk_set op t x j)) b_frame b_uses b_hi b_lo b_who b_when n (lN x) 0 := by
  have e : hk_sm op t + x = x + hk_sm (hk_set op t x) t := by
    rw [hk_smE (op := op) (op' := hk_set op t x) t (fun j hj => hk_setN (by omega))]
    omega
  rw [e] at K
  exact ⟨t + 1, hk_ynest ht K t 0 (t + 1) (by omega) (by omega)⟩
theorem hk_y22out {post : Int64 → SY → Prop} {x : Nat} (ht : t ≤ 4) (ex : op t = x + 1) (K : post (lN (hk_sm op t + x)) (g_cap, nI t, g_m, g_clock, (fun j => lN (hk_set op t x j)), b_frame, b_uses, b_hi, b_lo, b_who, b_when)) :
    wY_nest_22 post 0 g_cap (nI t) g_m g_clock (fun j => lN (op j)) b_frame b_uses b_hi b_lo b_who b_when := by
  have hv : (lN (op (nI t).toNatClampNeg)) - 1 = lN x := by
    rw [nI_clamp (by omega), ex, hk_lpred]
  have hu : vp_updL (fun j => lN (op j)) (nI t).toNatClampNeg ((lN (op (nI t).toNatClampNeg)) - 1) = fun j => lN (hk_set op t x j) := by
    rw [hv, nI_clamp (by omega), hk_setL]
  exact br_t rfl ⟨hk_in5 (by omega), hk_in5 (by omega), nm_r hu (nm_r hv (hk_ynestE ht K))⟩
theorem hk_y22in {post : Int64 → SY → Prop} {x : Nat} (ht : t ≤ 4) (ex : op t + 1 = x) (K : post (lN (hk_sm op t + x)) (g_cap, nI t, g_m, g_clock, (fun j => lN (hk_set op t x j)), b_frame, b_uses, b_hi, b_lo, b_who, b_when)) :
    wY_nest_22 post 1 g_cap (nI t) g_m g_clock (fun j => lN (op j)) b_frame b_uses b_hi b_lo b_who b_when := by
  have hv : (lN (op (nI t).toNatClampNeg)) + 1 = lN x := by
    rw [nI_clamp (by omega), lN_1, ex]
  have hu : vp_updL (fun j => lN (op j)) (nI t).toNatClampNeg ((lN (op (nI t).toNatClampNeg)) + 1) = fun j => lN (hk_set op t x j) := by
    rw [hv, nI_clamp (by omega), hk_setL]
  exact br_f (by decide) ⟨hk_in5 (by omega), hk_in5 (by omega), nm_r hu (nm_r hv (hk_ynestE ht K))⟩
/-- defaultFields of the reference -/
theorem hk_ydef {post : Int64 → SY → Prop} {b_open : Nat → Int64} {w : Nat} (ht : t < 4) (hw : w < 2 ^ 30) (ew : b_uses t = nI w)
    (K0 : w = 0 → post (b_frame t) (g_cap, nI (t + 1), g_m, g_clock, b_open, b_frame, upd b_uses t (nI (w + 1)), b_hi, b_lo, b_who, b_when))
    (K1 : ¬ w = 0 → post 0 (g_cap, nI (t + 1), g_m, g_clock, b_open, b_frame, upd b_uses t (nI (w + 1)), b_hi, b_lo, b_who, b_when)) :
    wpY_defaultFields post (g_cap, nI (t + 1), g_m, g_clock, b_open, b_frame, b_uses, b_hi, b_lo, b_who, b_when) := by
  unfold wpY_defaultFields
  dsimp only
  rw [nI_pred, hk_cl ht, ew, nI_1]
  refine br_f (nI_ne0 (by omega) (by omega)) ⟨hk_in ht, hk_in ht, nm_e ?_⟩
  by_cases z : w = 0
  · exact br_t ((hk_i0 (by omega)).mpr z) ⟨hk_in ht, K0 z⟩
  · exact br_f (fun h => z ((hk_i0 (by omega)).mp h)) (K1 z)
end
theorem hk_b1 : vp_nar .byte (1 : Int32).toInt8.toInt32 = 1 := by rw [pk_vb]; decide
theorem hk_b0 : vp_nar .byte (0 : Int32).toInt8.toInt32 = 0 := by rw [pk_vb]; decide
theorem hk_b1' : vp_nar .byte (1 : Int32) = 1 := by rw [vp_nar_byte]; decide
end
section
section
variable {m : Nat} {g_cap g_n : Int32} {g_clock : Int64} {b_open b_frame b_when : Nat → Int64} {b_uses b_hi b_lo b_who pr : Nat → Int32}
/-- the reference's scan finds the greatest -/
theorem hk_yloop {post : Int32 → Prop} (hm : m ≤ 4) (hp : ∀ i, i < m → b_hi i = hk_hi (pr i) ∧ b_lo i = hk_lo (pr i))
    (K : ∀ b, b < m → (∀ j, j < m → hk_ge (pr b, b_who b, b_when b) (pr j, b_who j, b_when j)) → post (nI b)) :
    ∀ d i b n : Nat, i + d = m → b < i → d < n → (∀ j, j < i → hk_ge (pr b, b_who b, b_when b) (pr j, b_who j, b_when j)) →
      wY_first_15 post g_cap g_n (nI m) g_clock b_open b_frame b_uses b_hi b_lo b_who b_when n (nI b) (nI i) := by
  intro d
  induction d with
  | zero =>
    intro i b n hi hb hn hg
    obtain ⟨n, rfl⟩ : ∃ n', n = n' + 1 := ⟨n - 1, by omega⟩
    have e : i = m := by omega
    subst e
    exact br_t (Int32.le_refl _) (K b hb hg)
  | succ d ih =>
    intro i b n hi hb hn hg
    obtain ⟨n, rfl⟩ : ∃ n', n = n' + 1 := ⟨n - 1, by omega⟩
    have ii : vp_in (nI i) 4 := hk_in (by omega)
    have ib : vp_in (nI b) 4 := hk_in (by omega)
    have pi := hp i (by omega)
    have pb := hp b (by omega)
    have NEW : hk_ge (pr i, b_who i, b_when i) (pr b, b_who b, b_when b) → ∀ x : Int32, x = nI i + 1 → wY_first_15 post g_cap g_n (nI m) g_clock b_open b_frame b_uses b_hi b_lo b_who b_when n (nI i) x :=
      fun hx => nm_r (nI_1 i) (ih (i + 1) i n (by omega) (by omega) (by omega) (lt_s (fun j hj => hk_ge_tr hx (hg j hj)) (hk_ge_rf _)))
    have KEEP : hk_ge (pr b, b_who b, b_when b) (pr i, b_who i, b_when i) → ∀ x : Int32, x = nI i + 1 → wY_first_15 post g_cap g_n (nI m) g_clock b_open b_frame b_uses b_hi b_lo b_who b_when n (nI b) x :=
      fun hx => nm_r (nI_1 i) (ih (i + 1) b n (by omega) (by omega) (by omega) (lt_s hg hx))
    refine br_f (nI_ge (a := i) (b := m) (by omega) (by omega)) ⟨ii, ib, ?_⟩
    rw [hk_cl (show i < 4 by omega), hk_cl (show b < 4 by omega), pi.1, pi.2, pb.1, pb.2]
    exact br_c (fun h1 => NEW (Or.inl (hk_hiLt h1)))
      (fun h1 => ⟨ii, ib, br_c
        (fun h2 => ⟨ii, ib, br_c (fun h3 => NEW (Or.inl (hk_loLt h2 h3)))
          (fun h3 => ⟨ii, ib, br_c
            (fun h4 => ⟨ii, ib, br_c (fun h5 => KEEP (Or.inr ⟨hk_both h2 h4, h5⟩)) (fun h5 => NEW (Or.inr ⟨(hk_both h2 h4).symm, Int64.le_of_lt (Int64.not_le.mp h5)⟩))⟩)
            (fun h4 => KEEP (Or.inl (hk_loGt h2 h3 h4)))⟩)⟩)
        (fun h2 => KEEP (Or.inl (hk_hiGt h1 h2)))⟩)
theorem hk_yfirst {post : Int32 → Prop} (hm0 : 0 < m) (hm : m ≤ 4) (hp : ∀ i, i < m → b_hi i = hk_hi (pr i) ∧ b_lo i = hk_lo (pr i))
    (K : ∀ b, b < m → (∀ j, j < m → hk_ge (pr b, b_who b, b_when b) (pr j, b_who j, b_when j)) → post (nI b)) :
    wpY_first post (g_cap, g_n, nI m, g_clock, b_open, b_frame, b_uses, b_hi, b_lo, b_who, b_when) :=
  ⟨m, hk_yloop hm hp K (m - 1) 1 0 m (by omega) (by omega) (by omega) (fun j hj => by
    have e : j = 0 := by omega
    subst e
    exact hk_ge_rf _)⟩
end
section
variable {f_cap f_top f_head f_free f_count : Int32} {f_depth : Int64} {a_objId a_descId a_used a_vObj a_vPrio a_vNext : Nat → Int32} {a_entry : Nat → Int64}
/-- X looks for the place: A' is passed, B' is behind -/
theorem hk_xreg {post : Int32 → SX → Prop} {p x3 : Int32} : ∀ (B : List Nat) (n st : Nat) (pv cur : Int32), hk_LS a_vNext cur B (-1) → (∀ s, s ∈ B → s < 4) → st + B.length ≤ 4 → B.length < n →
    (∀ (A' B' : List Nat) (d : Int32), B = A' ++ B' → (∀ a, a ∈ A' → p < a_vPrio a) → (∀ b r, B' = b :: r → a_vPrio b ≤ p) → hk_LS a_vNext cur A' d → hk_LS a_vNext d B' (-1) →
      wX_registerValidation_139 post x3 (hk_pv pv A') d f_cap f_top f_depth f_head f_free f_count a_objId a_descId a_used a_entry a_vObj a_vPrio a_vNext) →
    wX_registerValidation_89 post p x3 f_cap f_top f_depth f_head f_free f_count a_objId a_descId a_used a_entry a_vObj a_vPrio a_vNext n pv cur (nI st) := by
  intro B
  induction B with
  | nil =>
    intro n st pv cur h h4 hst hn K
    obtain ⟨n, rfl⟩ : ∃ n', n = n' + 1 := ⟨n - 1, by omega⟩
    have K0 := K [] [] cur rfl (fun a ha => absurd ha List.not_mem_nil) (fun b r e => nomatch e) rfl h
    have hc : cur < 0 := by
      have e : cur = -1 := h
      rw [e]
      exact hk_m1lt
    by_cases z : st < 4
    · exact br_f (nI_ge (a := st) (b := 4) z (by decide)) (br_t hc K0)
    · exact br_t (nI_le (a := 4) (b := st) (by omega) (by have : st ≤ 4 := hst; omega)) K0
  | cons s r ih =>
    intro n st pv cur h h4 hst hn K
    obtain ⟨n, rfl⟩ : ∃ n', n = n' + 1 := ⟨n - 1, by omega⟩
    rw [List.length_cons] at hst hn
    have hs4 : s < 4 := h4 s List.mem_cons_self
    have e := h.1
    subst e
    refine br_f (nI_ge (a := st) (b := 4) (by omega) (by decide)) (br_f (nI_pos (by omega)) (br_f (nI_ge (a := s) (b := 4) hs4 (by decide)) ⟨hk_in hs4, ?_⟩))
    rw [hk_cl hs4]
    by_cases z : a_vPrio s ≤ p
    · exact br_t z (K [] (s :: r) (nI s) rfl (fun a ha => absurd ha List.not_mem_nil) (fun b r' e => by cases e; exact z) rfl h)
    · refine br_f z ⟨hk_in hs4, nm_e (nm_r (nI_1 st) (ih n (st + 1) (nI s) (a_vNext s) h.2 (fun x hx => h4 x (List.mem_cons_of_mem _ hx)) (by omega) (by omega) ?_))⟩
      intro A' B' d e ha hb h1 h2
      refine K (s :: A') B' d (by rw [e]; rfl) (fun a hm => ?_) hb ⟨rfl, h1⟩ h2
      rcases List.mem_cons.mp hm with e' | hr
      · rw [e']; exact Int32.not_le.mp z
      · exact ha a hr
/-- X gives back all slots of the queue -/
theorem hk_xdrain {post : Int32 → SX → Prop} : ∀ (L F : List Nat) (n st : Nat) (hd fr : Int32) (nx : Nat → Int32), (L ++ F).Nodup → (∀ s, s ∈ L ++ F → s < 4) → hk_LS nx hd L (-1) → hk_LS nx fr F (-1) → st + L.length ≤ 4 → L.length < n →
    (∀ (F' : List Nat) (nx' : Nat → Int32) (fr' : Int32), F'.length = L.length + F.length → F'.Nodup → (∀ s, s ∈ F' → s < 4) → hk_LS nx' fr' F' (-1) →
      post 0 (f_cap, f_top, f_depth, -1, fr', 0, a_objId, a_descId, a_used, a_entry, a_vObj, a_vPrio, nx')) →
    wX_drainNext_17 post f_cap f_top f_depth f_count n (nI st) hd fr a_objId a_descId a_used a_entry a_vObj a_vPrio nx := by
  intro L
  induction L with
  | nil =>
    intro F n st hd fr nx hn h4 hl hf hst hlt K
    obtain ⟨n, rfl⟩ : ∃ n', n = n' + 1 := ⟨n - 1, by omega⟩
    have K0 := K F nx fr (by rw [List.length_nil, Nat.zero_add]) hn h4 hf
    have hc : hd < 0 := by
      have e : hd = -1 := hl
      rw [e]
      exact hk_m1lt
    by_cases z : st < 4
    · exact br_f (nI_ge (a := st) (b := 4) z (by decide)) (br_t hc K0)
    · exact br_t (nI_le (a := 4) (b := st) (by omega) (by have : st ≤ 4 := hst; omega)) K0
  | cons s r ih =>
    intro F n st hd fr nx hn h4 hl hf hst hlt K
    obtain ⟨n, rfl⟩ : ∃ n', n = n' + 1 := ⟨n - 1, by omega⟩
    rw [List.length_cons] at hst hlt
    have hs4 : s < 4 := h4 s List.mem_cons_self
    have e := hl.1
    subst e
    have hP : (r ++ s :: F).Perm ((s :: r) ++ F) := List.perm_middle
    have hns : s ∉ r ++ F := (List.nodup_cons.mp hn).1
    have hfr : hk_sl fr := hk_slOf hf (fun x hx => h4 x (List.mem_append.mpr (Or.inr hx)))
    have hu : upd nx (nI s).toNatClampNeg (vp_nar .short fr.toInt16.toInt32) = upd nx s fr := by
      rw [hk_cl hs4, hk_nar hfr]
    refine br_f (nI_ge (a := st) (b := 4) (by omega) (by decide)) (br_f (nI_pos (by omega)) (br_f (nI_ge (a := s) (b := 4) hs4 (by decide)) ⟨hk_in hs4, nm_r (e' := nx s) (by rw [hk_cl hs4]) ⟨hk_in hs4, nm_r hu (nm_r (nI_1 st) ?_)⟩⟩))
    refine ih (s :: F) n (st + 1) (nx s) (nI s) (upd nx s fr) (hP.nodup_iff.mpr hn) (fun x hx => h4 x (hP.mem_iff.mp hx)) (hk_LSup (fun hx => hns (List.mem_append.mpr (Or.inl hx))) hl.2) ⟨rfl, ?_⟩ (by omega) (by omega) ?_
    · rw [pk_us]
      exact hk_LSup (fun hx => hns (List.mem_append.mpr (Or.inr hx))) hf
    · intro F' nx' fr' e1 e2 e3 e4
      exact K F' nx' fr' (by rw [e1, List.length_cons, List.length_cons]; omega) e2 e3 e4
end
section
variable {k c m ck : Nat} {L F : List Nat} {tm : Nat → Int64} {pr : Nat → Int32} {f_head f_free : Int32} {a_vObj a_vPrio a_vNext : Nat → Int32} {g_clock : Int64} {b_hi b_lo b_who : Nat → Int32} {b_when : Nat → Int64}
/-- the greatest of the reference is the first of X -/
theorem hk_top {s b : Nat} {r : List Nat} (hQ : hk_QQ k c m (s :: r) F tm pr ck f_head f_free a_vObj a_vPrio a_vNext g_clock b_hi b_lo b_who b_when) (hb : b < m)
    (hg : ∀ j, j < m → hk_ge (pr b, b_who b, b_when b) (pr j, b_who j, b_when j)) : (pr b, b_who b, b_when b) = (a_vPrio s, a_vObj s, tm s) := by
  obtain ⟨_, _, _, _, _, _, _, _, _, h10, _, h12⟩ := hQ
  rw [List.map_cons] at h10 h12
  refine hk_max h10 (h12.mem_iff.mpr (List.mem_map.mpr ⟨b, List.mem_range.mpr hb, rfl⟩)) (fun z hz => ?_)
  obtain ⟨j, hj, e⟩ := List.mem_map.mp (h12.mem_iff.mp hz)
  rw [← e]
  exact hg j (List.mem_range.mp hj)
/-- the first goes on both sides -/
theorem hk_pop {s b : Nat} {r : List Nat} (hQ : hk_QQ k c (m + 1) (s :: r) F tm pr ck f_head f_free a_vObj a_vPrio a_vNext g_clock b_hi b_lo b_who b_when) (hb : b < m + 1)
    (he : (pr b, b_who b, b_when b) = (a_vPrio s, a_vObj s, tm s)) :
    hk_Q (k + 3) c m (a_vNext s) (nI s) a_vObj a_vPrio (upd a_vNext s f_free) g_clock (upd b_hi b (b_hi m)) (upd b_lo b (b_lo m)) (upd b_who b (b_who m)) (vp_updL b_when b (b_when m)) := by
  obtain ⟨h1, h2, h3, h4, h5, h6, h7, h8, h9, h10, h11, h12⟩ := hQ
  rw [List.length_cons] at h1
  have hP : (r ++ s :: F).Perm ((s :: r) ++ F) := List.perm_middle
  have hns : s ∉ r ++ F := (List.nodup_cons.mp h3).1
  refine ⟨r, s :: F, tm, upd pr b (pr m), ck, by omega, by rw [List.length_cons]; omega, hP.nodup_iff.mpr h3, fun x hx => h4 x (hP.mem_iff.mp hx), hk_LSup (fun hx => hns (List.mem_append.mpr (Or.inl hx))) h5.2, ⟨rfl, ?_⟩, h7, by omega, fun x hx => h9 x (List.mem_cons_of_mem _ hx), ?_, ?_, ?_⟩
  · rw [pk_us]
    exact hk_LSup (fun hx => hns (List.mem_append.mpr (Or.inr hx))) h6
  · rw [List.map_cons] at h10
    exact (List.pairwise_cons.mp h10).2
  · intro i hi
    by_cases e : i = b
    · rw [e, pk_us, pk_us, pk_us]
      exact h11 m (by omega)
    · rw [pk_un e, pk_un e, pk_un e]
      exact h11 i (by omega)
  · have hT := hk_take (fun i => (pr i, b_who i, b_when i)) (fun i => (upd pr b (pr m) i, upd b_who b (b_who m) i, vp_updL b_when b (b_when m) i)) m b (by omega)
      (fun _ => by show (upd pr b (pr m) b, upd b_who b (b_who m) b, vp_updL b_when b (b_when m) b) = (pr m, b_who m, b_when m); rw [pk_us, pk_us, pk_uLs])
      (fun j _ hj => by show (upd pr b (pr m) j, upd b_who b (b_who m) j, vp_updL b_when b (b_when m) j) = (pr j, b_who j, b_when j); rw [pk_un hj, pk_un hj, pk_uLn hj])
    have hE := h12.trans hT
    rw [List.map_cons] at hE
    have hE' : ((a_vPrio s, a_vObj s, tm s) :: r.map (fun s => (a_vPrio s, a_vObj s, tm s))).Perm ((pr b, b_who b, b_when b) :: (List.range m).map (fun i => (upd pr b (pr m) i, upd b_who b (b_who m) i, vp_updL b_when b (b_when m) i))) := hE
    rw [he] at hE'
    exact hE'.cons_inv
/-- one comes on both sides -/
theorem hk_ins {s : Nat} {A B F' : List Nat} {p0 p1 f_head' f_free' : Int32} {a_vNext' : Nat → Int32} (hk : k + 3 ≤ 1537)
    (hQ : hk_QQ k c m (A ++ B) (s :: F') tm pr ck f_head f_free a_vObj a_vPrio a_vNext g_clock b_hi b_lo b_who b_when)
    (hA : ∀ a, a ∈ A → p1 < a_vPrio a) (hB : ∀ b r, B = b :: r → a_vPrio b ≤ p1)
    (hL : hk_LS a_vNext' f_head' (A ++ s :: B) (-1)) (hF : hk_LS a_vNext' f_free' F' (-1)) :
    hk_Q (k + 3) c (m + 1) f_head' f_free' (upd a_vObj s p0) (upd a_vPrio s p1) a_vNext' (lN (ck + 1)) (upd b_hi m (hk_hi p1)) (upd b_lo m (hk_lo p1)) (upd b_who m p0) (vp_updL b_when m (lN (ck + 1))) := by
  obtain ⟨h1, h2, h3, h4, h5, h6, h7, h8, h9, h10, h11, h12⟩ := hQ
  have hP : ((A ++ s :: B) ++ F').Perm ((A ++ B) ++ s :: F') := (List.perm_middle.append_right F').trans List.perm_middle.symm
  have hns : s ∉ A ++ B := fun hx => (List.nodup_append.mp h3).2.2 s hx s List.mem_cons_self rfl
  have hsA : ∀ a, a ∈ A → a ≠ s := fun a ha e => hns (e ▸ List.mem_append.mpr (Or.inl ha))
  have hsB : ∀ a, a ∈ B → a ≠ s := fun a ha e => hns (e ▸ List.mem_append.mpr (Or.inr ha))
  have hlt : lN ck < lN (ck + 1) := (lN_lt (by omega) (by omega)).mpr (by omega)
  have hf : ∀ a, a ≠ s → (upd a_vPrio s p1 a, upd a_vObj s p0 a, vp_updL tm s (lN (ck + 1)) a) = (a_vPrio a, a_vObj a, tm a) := fun a ha => by rw [pk_un ha, pk_un ha, pk_uLn ha]
  have hmap : (A ++ s :: B).map (fun a => (upd a_vPrio s p1 a, upd a_vObj s p0 a, vp_updL tm s (lN (ck + 1)) a)) = A.map (fun a => (a_vPrio a, a_vObj a, tm a)) ++ (p1, p0, lN (ck + 1)) :: B.map (fun a => (a_vPrio a, a_vObj a, tm a)) := by
    rw [List.map_append, List.map_cons, List.map_congr_left (l := A) (fun a ha => hf a (hsA a ha)), List.map_congr_left (l := B) (fun a ha => hf a (hsB a ha)), pk_us, pk_us, pk_uLs]
  rw [List.map_append] at h10 h12
  obtain ⟨hpA, hpB, hpAB⟩ := List.pairwise_append.mp h10
  have hBp : ∀ b, b ∈ B → a_vPrio b ≤ p1 := by
    intro b hb
    cases B with
    | nil => exact absurd hb List.not_mem_nil
    | cons b0 r =>
      have h0 := hB b0 r rfl
      rcases List.mem_cons.mp hb with e | hr
      · rw [e]; exact h0
      · rw [List.map_cons] at hpB
        have hg := (List.pairwise_cons.mp hpB).1 _ (List.mem_map.mpr ⟨b, hr, rfl⟩)
        rcases hg with hg | hg
        · exact Int32.le_trans (Int32.le_of_lt hg) h0
        · have e : a_vPrio b = a_vPrio b0 := hg.1
          rw [e]; exact h0
  refine ⟨A ++ s :: B, F', vp_updL tm s (lN (ck + 1)), upd pr m p1, ck + 1, ?_, ?_, hP.nodup_iff.mpr h3, fun x hx => h4 x (hP.mem_iff.mp hx), hL, hF, rfl, by omega, ?_, ?_, ?_, ?_⟩
  · rw [List.length_append] at h1
    rw [List.length_append, List.length_cons]
    omega
  · rw [List.length_cons] at h2
    omega
  · intro x hx
    by_cases e : x = s
    · rw [e, pk_uLs]
      exact Int64.le_refl _
    · rw [pk_uLn e]
      have hx' : x ∈ A ++ B := by
        rcases List.mem_append.mp hx with h | h
        · exact List.mem_append.mpr (Or.inl h)
        · rcases List.mem_cons.mp h with h' | h'
          · exact absurd h' e
          · exact List.mem_append.mpr (Or.inr h')
      exact Int64.le_trans (h9 x hx') (Int64.le_of_lt hlt)
  · rw [hmap]
    refine List.pairwise_append.mpr ⟨hpA, List.pairwise_cons.mpr ⟨fun y hy => ?_, hpB⟩, fun x hx y hy => ?_⟩
    · obtain ⟨b, hb, e⟩ := List.mem_map.mp hy
      rw [← e]
      have hle := hBp b hb
      have ht := h9 b (List.mem_append.mpr (Or.inr hb))
      by_cases z : a_vPrio b = p1
      · exact Or.inr ⟨z, Int64.lt_of_le_of_lt ht hlt⟩
      · exact Or.inl (Int32.lt_of_le_of_ne hle z)
    · rcases List.mem_cons.mp hy with e | hy'
      · obtain ⟨a, ha, ea⟩ := List.mem_map.mp hx
        rw [e, ← ea]
        exact Or.inl (hA a ha)
      · exact hpAB x hx y hy'
  · intro i hi
    by_cases e : i = m
    · rw [e, pk_us, pk_us, pk_us]
      exact ⟨rfl, rfl⟩
    · rw [pk_un e, pk_un e, pk_un e]
      exact h11 i (by omega)
  · have hr : (List.range m).map (fun i => (upd pr m p1 i, upd b_who m p0 i, vp_updL b_when m (lN (ck + 1)) i)) = (List.range m).map (fun i => (pr i, b_who i, b_when i)) := by
      apply List.map_congr_left
      intro j hj
      have hj' : j ≠ m := by
        have := List.mem_range.mp hj
        omega
      rw [pk_un hj', pk_un hj', pk_uLn hj']
    rw [hmap, List.range_succ, List.map_append, hr, List.map_cons, List.map_nil, pk_us, pk_us, pk_uLs]
    exact List.perm_middle.trans ((h12.cons _).trans (List.perm_append_singleton _ _).symm)
end
end
section
theorem i_vc_nest {k : Nat} {u : SX} {v : SY} (I : i_Rel k u v) (hk : k + 3 ≤ 1537) (v1 : Int32) : wpX_nest (fun r u' => wpY_nest (fun r' v' => r' = r ∧ i_Rel (k + 3) u' v') v (lw_bz v1)) u (lw_bz v1) := by
  have I3 := i_up I
  obtain ⟨f_cap, f_top, f_depth, f_head, f_free, f_count, a_objId, a_descId, a_used, a_entry, a_vObj, a_vPrio, a_vNext⟩ := u
  obtain ⟨g_cap, g_n, g_m, g_clock, b_open, b_frame, b_uses, b_hi, b_lo, b_who, b_when⟩ := v
  obtain ⟨c, t, m, op, rfl, rfl, rfl, rfl, rfl, rfl, rfl, rfl, hc1, hc4, hH, hQ⟩ := I
  have ht := hH.1
  have hs := hH.2.1
  have hs1 : hk_sm op (t + 1) = hk_sm op t + op t := rfl
  have hz : (fun j => lN (op j)) (nI t).toNatClampNeg = lN (op t) := by
    show lN (op (nI t).toNatClampNeg) = _
    rw [nI_clamp (by omega)]
  rcases lw_bz_01 v1 with e | e
  · rw [e]
    refine br_t rfl (hk_act hH hc4 (by omega) (fun z => ?_) (fun z => ?_))
    · refine br_t rfl ⟨hk_in5 (by omega), br_t (hz.trans (by rw [z]; rfl)) ⟨rfl, I3⟩⟩
    · obtain ⟨x, ex⟩ : ∃ x, op t = x + 1 := ⟨op t - 1, by omega⟩
      refine nm_r (e' := lN (hk_sm op t + x)) ?_ ?_
      · rw [hs1, ex, ← Nat.add_assoc, hk_lpred]
      · refine br_t rfl ⟨hk_in5 (by omega), br_f (fun h => z ((hk_l0 (by omega)).mp (hz.symm.trans h))) (hk_y22out (by omega) ex ⟨rfl, ?_⟩)⟩
        exact ⟨c, t, m, hk_set op t x, rfl, rfl, rfl, rfl, rfl, rfl, by rw [hk_setSm], rfl, hc1, hc4, hk_Hset (by omega) hH (by omega), hk_Qup (by omega) hQ⟩
  · rw [e]
    refine br_f (by decide) (nm_r (e' := lN (hk_sm op t + (op t + 1))) ?_ ?_)
    · rw [hs1, lN_1, Nat.add_assoc]
    · refine br_f (by decide) (hk_y22in (by omega) rfl ⟨rfl, ?_⟩)
      exact ⟨c, t, m, hk_set op t (op t + 1), rfl, rfl, rfl, rfl, rfl, rfl, by rw [hk_setSm], rfl, hc1, hc4, hk_Hset (by omega) hH (by omega), hk_Qup (by omega) hQ⟩
theorem hk_Henter {k c t : Nat} {op : Nat → Nat} {a_objId a_descId a_used : Nat → Int32} {a_entry b_frame : Nat → Int64} {b_uses : Nat → Int32} (v1 v2 : Int32) (z : Nat) (hz : z ≤ 1)
    (hH : hk_H k c t op a_objId a_descId a_used a_entry b_frame b_uses) (ht : t < c) (ho : ¬ op t = 0) :
    hk_H (k + 3) c (t + 1) op (upd a_objId t v1) (upd a_descId t v2) (upd a_used t (nI z)) (vp_updL a_entry t (lN (hk_sm op (t + 1)))) (vp_updL b_frame t ((v1.toInt64 <<< ((32 : Int32).toInt64 &&& 63)) ||| (v2.toInt64 &&& 4294967295))) (upd b_uses t (nI z)) := by
  obtain ⟨h1, h2, h3, h4⟩ := hH
  have hs1 : hk_sm op (t + 1 + 1) = hk_sm op (t + 1) + op (t + 1) := rfl
  have h5 := h4 (t + 1) (by omega)
  refine ⟨by omega, by omega, fun j hj => ?_, fun j hj => h4 j (by omega)⟩
  by_cases e : j = t
  · subst e
    rw [pk_us, pk_us, pk_us, pk_us, pk_uLs, pk_uLs]
    exact ⟨by omega, rfl, rfl, z, by omega, rfl, hk_i0 (by omega)⟩
  · rw [pk_un e, pk_un e, pk_un e, pk_un e, pk_uLn e, pk_uLn e]
    have h6 := h3 j (by omega)
    exact ⟨h6.1, h6.2.1, hk_Cup (by omega) h6.2.2⟩
theorem i_vc_enterHook {k : Nat} {u : SX} {v : SY} (I : i_Rel k u v) (hk : k + 3 ≤ 1537) (v1 : Int32) (v2 : Int32) : wpX_enterHook (fun r u' => wpY_enterHook (fun r' v' => r' = r ∧ i_Rel (k + 3) u' v') v v1 v2) u v1 v2 := by
  have I3 := i_up I
  obtain ⟨f_cap, f_top, f_depth, f_head, f_free, f_count, a_objId, a_descId, a_used, a_entry, a_vObj, a_vPrio, a_vNext⟩ := u
  obtain ⟨g_cap, g_n, g_m, g_clock, b_open, b_frame, b_uses, b_hi, b_lo, b_who, b_when⟩ := v
  obtain ⟨c, t, m, op, rfl, rfl, rfl, rfl, rfl, rfl, rfl, rfl, hc1, hc4, hH, hQ⟩ := I
  have ht := hH.1
  have hs := hH.2.1
  have hs1 : hk_sm op (t + 1) = hk_sm op t + op t := rfl
  have hs2 : hk_sm op (t + 1 + 1) = hk_sm op (t + 1) + op (t + 1) := rfl
  have ho := hH.2.2.2 (t + 1) (by omega)
  have hz : (fun j => lN (op j)) (nI t).toNatClampNeg = lN (op t) := by
    show lN (op (nI t).toNatClampNeg) = _
    rw [nI_clamp (by omega)]
  refine hk_act hH hc4 (by omega) (fun z => ?_) (fun z => ?_)
  · exact ⟨hk_in5 (by omega), br_t (hz.trans (by rw [z]; rfl)) ⟨rfl, I3⟩⟩
  · have hz' : ¬ (fun j => lN (op j)) (nI t).toNatClampNeg = 0 := fun h => z ((hk_l0 (by omega)).mp (hz.symm.trans h))
    by_cases hc : t < c
    · have h4 : t < 4 := by omega
      have ec := hk_cl h4
      have ed : hk_sm op (t + 1) = hk_sm op (t + 1 + 1) := by omega
      refine br_t (nI_lt hc (by omega)) ⟨hk_in h4, nm_r (e' := upd a_objId t v1) (by rw [ec]) ⟨hk_in h4, nm_r (e' := upd a_descId t v2) (by rw [ec]) ?_⟩⟩
      by_cases h2 : v2 = 0
      · refine br_t h2 ⟨hk_in h4, nm_r (e' := upd a_used t (nI 1)) (by rw [ec, hk_b1]; rfl) ⟨hk_in h4, nm_r (e' := vp_updL a_entry t (lN (hk_sm op (t + 1)))) (by rw [ec]) (nm_r (nI_1 t) ?_)⟩⟩
        refine ⟨hk_in5 (by omega), br_f hz' (br_f (fun h => by rw [nI_eq (by omega) (by omega)] at h; omega) ⟨hk_in h4, nm_r (e' := vp_updL b_frame t ((v1.toInt64 <<< ((32 : Int32).toInt64 &&& 63)) ||| (v2.toInt64 &&& 4294967295))) (by rw [ec]) (br_t h2 ⟨hk_in h4, nm_r (e' := upd b_uses t (nI 1)) (by rw [ec]; rfl) (nm_r (nI_1 t) ⟨nI_1 t, ?_⟩)⟩)⟩)⟩
        exact ⟨c, t + 1, m, op, rfl, rfl, rfl, rfl, rfl, rfl, congrArg lN ed, rfl, hc1, hc4, hk_Henter v1 v2 1 (by omega) hH hc z, hk_Qup (by omega) hQ⟩
      · refine br_f h2 ⟨hk_in h4, nm_r (e' := upd a_used t (nI 0)) (by rw [ec, hk_b0]; rfl) ⟨hk_in h4, nm_r (e' := vp_updL a_entry t (lN (hk_sm op (t + 1)))) (by rw [ec]) (nm_r (nI_1 t) ?_)⟩⟩
        refine ⟨hk_in5 (by omega), br_f hz' (br_f (fun h => by rw [nI_eq (by omega) (by omega)] at h; omega) ⟨hk_in h4, nm_r (e' := vp_updL b_frame t ((v1.toInt64 <<< ((32 : Int32).toInt64 &&& 63)) ||| (v2.toInt64 &&& 4294967295))) (by rw [ec]) (br_f h2 ⟨hk_in h4, nm_r (e' := upd b_uses t (nI 0)) (by rw [ec]; rfl) (nm_r (nI_1 t) ⟨nI_1 t, ?_⟩)⟩)⟩)⟩
        exact ⟨c, t + 1, m, op, rfl, rfl, rfl, rfl, rfl, rfl, congrArg lN ed, rfl, hc1, hc4, hk_Henter v1 v2 0 (by omega) hH hc z, hk_Qup (by omega) hQ⟩
    · have e : t = c := by omega
      exact br_f (nI_nlt (by omega) (by omega)) ⟨hk_in5 (by omega), br_f hz' (br_t (congrArg nI e) ⟨rfl, I3⟩)⟩
theorem hk_Hleave {k c t : Nat} {op : Nat → Nat} {a_objId a_descId a_used : Nat → Int32} {a_entry b_frame : Nat → Int64} {b_uses : Nat → Int32} (x : Int32)
    (hH : hk_H k c (t + 1) op a_objId a_descId a_used a_entry b_frame b_uses) (ho : op (t + 1) = 0) :
    hk_H (k + 3) c t op a_objId a_descId a_used a_entry b_frame (upd b_uses t x) := by
  obtain ⟨h1, h2, h3, h4⟩ := hH
  have hs1 : hk_sm op (t + 1 + 1) = hk_sm op (t + 1) + op (t + 1) := rfl
  refine ⟨by omega, by omega, fun j hj => ?_, fun j hj => ?_⟩
  · rw [pk_un (by omega)]
    have h6 := h3 j (by omega)
    exact ⟨h6.1, h6.2.1, hk_Cup (by omega) h6.2.2⟩
  · by_cases e : j = t + 1
    · rw [e]; exact ho
    · exact h4 j (by omega)
theorem i_vc_leaveHook {k : Nat} {u : SX} {v : SY} (I : i_Rel k u v) (hk : k + 3 ≤ 1537) : wpX_leaveHook (fun r u' => wpY_leaveHook (fun r' v' => r' = r ∧ i_Rel (k + 3) u' v') v) u := by
  have I3 := i_up I
  obtain ⟨f_cap, f_top, f_depth, f_head, f_free, f_count, a_objId, a_descId, a_used, a_entry, a_vObj, a_vPrio, a_vNext⟩ := u
  obtain ⟨g_cap, g_n, g_m, g_clock, b_open, b_frame, b_uses, b_hi, b_lo, b_who, b_when⟩ := v
  obtain ⟨c, t, m, op, rfl, rfl, rfl, rfl, rfl, rfl, rfl, rfl, hc1, hc4, hH, hQ⟩ := I
  have ht := hH.1
  have hs := hH.2.1
  have hz : (fun j => lN (op j)) (nI t).toNatClampNeg = lN (op t) := by
    show lN (op (nI t).toNatClampNeg) = _
    rw [nI_clamp (by omega)]
  cases t with
  | zero => exact br_t (by rw [nI_0]; exact Int32.le_refl _) (br_t nI_0 ⟨rfl, I3⟩)
  | succ t =>
    have hs1 : hk_sm op (t + 1 + 1) = hk_sm op (t + 1) + op (t + 1) := rfl
    have h4 : t < 4 := by omega
    have hn0 : ¬ nI (t + 1) = 0 := nI_ne0 (by omega) (by omega)
    have hp : nI (t + 1) - 1 = nI t := nI_pred t
    have he : a_entry (nI (t + 1) - 1).toNatClampNeg = lN (hk_sm op (t + 1)) := by
      rw [hp, hk_cl h4]
      exact (hH.2.2.1 t (by omega)).2.1
    have hin : vp_in (nI (t + 1) - 1) 4 := by
      rw [hp]
      exact hk_in h4
    refine br_f (nI_nle (by omega) (by omega)) (br_t (nI_le (b := 4) (by omega) (by decide)) ⟨hin, ?_⟩)
    by_cases z : op (t + 1) = 0
    · have ed : hk_sm op (t + 1 + 1) = hk_sm op (t + 1) := by omega
      refine br_t ((congrArg lN ed).trans he.symm) (nm_r hp ?_)
      refine br_f hn0 ⟨hk_in5 (by omega), br_t (hz.trans (by rw [z]; rfl)) ?_⟩
      obtain ⟨_, w, hw, ew, _⟩ := (hH.2.2.1 t (by omega)).2.2
      have R : i_Rel (k + 3) (nI c, nI t, lN (hk_sm op (t + 1 + 1)), f_head, f_free, nI m, a_objId, a_descId, a_used, a_entry, a_vObj, a_vPrio, a_vNext) (nI c, nI t, nI m, g_clock, (fun j => lN (op j)), b_frame, upd b_uses t (nI (w + 1)), b_hi, b_lo, b_who, b_when) :=
        ⟨c, t, m, op, rfl, rfl, rfl, rfl, rfl, rfl, congrArg lN ed, rfl, hc1, hc4, hk_Hleave _ hH z, hk_Qup (by omega) hQ⟩
      exact hk_ydef h4 (by omega) ew (fun _ => nm_r hp ⟨hp, R⟩) (fun _ => nm_r hp ⟨hp, R⟩)
    · have ed : ¬ lN (hk_sm op (t + 1 + 1)) = a_entry (nI (t + 1) - 1).toNatClampNeg := by
        rw [he, lN_eq (by omega) (by omega)]
        omega
      exact br_f ed (br_f hn0 ⟨hk_in5 (by omega), br_f (fun h => z ((hk_l0 (by omega)).mp (hz.symm.trans h))) ⟨rfl, I3⟩⟩)
theorem hk_Hdef {k c t w : Nat} {op : Nat → Nat} {a_objId a_descId a_used a_used' : Nat → Int32} {a_entry b_frame : Nat → Int64} {b_uses : Nat → Int32}
    (hH : hk_H k c (t + 1) op a_objId a_descId a_used a_entry b_frame b_uses) (hw : w ≤ k) (h1 : ¬ a_used' t = 0) (h2 : ∀ j, j ≠ t → a_used' j = a_used j) :
    hk_H (k + 3) c (t + 1) op a_objId a_descId a_used' a_entry b_frame (upd b_uses t (nI (w + 1))) := by
  obtain ⟨g1, g2, g3, g4⟩ := hH
  refine ⟨g1, by omega, fun j hj => ?_, g4⟩
  have h6 := g3 j hj
  refine ⟨h6.1, h6.2.1, ?_⟩
  by_cases e : j = t
  · subst e
    rw [pk_us]
    exact ⟨h6.2.2.1, w + 1, by omega, rfl, fun h => absurd h h1, fun h => absurd h (by omega)⟩
  · rw [pk_un e, h2 j e]
    exact hk_Cup (by omega) h6.2.2
theorem i_vc_defaultFields {k : Nat} {u : SX} {v : SY} (I : i_Rel k u v) (hk : k + 3 ≤ 1537) : wpX_defaultFields (fun r u' => wpY_defaultFields (fun r' v' => r' = r ∧ i_Rel (k + 3) u' v') v) u := by
  have I3 := i_up I
  obtain ⟨f_cap, f_top, f_depth, f_head, f_free, f_count, a_objId, a_descId, a_used, a_entry, a_vObj, a_vPrio, a_vNext⟩ := u
  obtain ⟨g_cap, g_n, g_m, g_clock, b_open, b_frame, b_uses, b_hi, b_lo, b_who, b_when⟩ := v
  obtain ⟨c, t, m, op, rfl, rfl, rfl, rfl, rfl, rfl, rfl, rfl, hc1, hc4, hH, hQ⟩ := I
  have ht := hH.1
  cases t with
  | zero => exact br_t (by rw [nI_0]; exact Int32.le_refl _) (br_t nI_0 ⟨rfl, I3⟩)
  | succ t =>
    have h4 : t < 4 := by omega
    have hp : nI (t + 1) - 1 = nI t := nI_pred t
    have ec := hk_cl h4
    obtain ⟨ef, w, hw, ew, hu⟩ := (hH.2.2.1 t (by omega)).2.2
    refine br_f (nI_nle (by omega) (by omega)) (br_t (nI_le (b := 4) (by omega) (by decide)) (nm_r hp ⟨hk_in h4, ?_⟩))
    by_cases z : a_used t = 0
    · have zw := hu.mp z
      refine br_t (by rw [ec]; exact z) ⟨hk_in h4, nm_r (e' := upd a_used t 1) (by rw [ec, hk_b1']) ⟨hk_in h4, hk_in h4, ?_⟩⟩
      refine hk_ydef h4 (by omega) ew (fun _ => ⟨by rw [ec]; exact ef, ?_⟩) (fun h => absurd zw h)
      exact ⟨c, t + 1, m, op, rfl, rfl, rfl, rfl, rfl, rfl, rfl, rfl, hc1, hc4, hk_Hdef hH hw (by rw [pk_us]; decide) (fun j hj => pk_un hj), hk_Qup (by omega) hQ⟩
    · refine br_f (by rw [ec]; exact z) ?_
      refine hk_ydef h4 (by omega) ew (fun h => absurd (hu.mpr h) z) (fun _ => ⟨rfl, ?_⟩)
      exact ⟨c, t + 1, m, op, rfl, rfl, rfl, rfl, rfl, rfl, rfl, rfl, hc1, hc4, hk_Hdef hH hw z (fun j _ => rfl), hk_Qup (by omega) hQ⟩
end
section
/-- nothing is begun at all exactly when nothing is begun outside all contexts -/
theorem hk_dep {k c t : Nat} {op : Nat → Nat} {a_objId a_descId a_used : Nat → Int32} {a_entry b_frame : Nat → Int64} {b_uses : Nat → Int32} (hH : hk_H k c t op a_objId a_descId a_used a_entry b_frame b_uses) (hk : k ≤ 1537) :
    (lN (hk_sm op (t + 1)) = 0 ↔ op 0 = 0) ∧ (lN (op 0) = 0 ↔ op 0 = 0) := by
  obtain ⟨ht, hs, hj, ho⟩ := hH
  have h0 := hk_sm0 (op := op) t
  refine ⟨?_, hk_l0 (by omega)⟩
  rw [hk_l0 (by omega)]
  constructor
  · intro h
    omega
  · intro h
    cases t with
    | zero =>
      show 0 + op 0 = 0
      omega
    | succ t =>
      have := (hj 0 (by omega)).1
      omega
theorem hk_len {k c m ck : Nat} {L F : List Nat} {tm : Nat → Int64} {pr : Nat → Int32} {f_head f_free : Int32} {a_vObj a_vPrio a_vNext : Nat → Int32} {g_clock : Int64} {b_hi b_lo b_who : Nat → Int32} {b_when : Nat → Int64}
    (hQ : hk_QQ k c m L F tm pr ck f_head f_free a_vObj a_vPrio a_vNext g_clock b_hi b_lo b_who b_when) : m ≤ c := by
  have h := hQ.2.1
  omega
/-- the links behind an insertion -/
theorem hk_link {nx : Nat → Int32} {A B F : List Nat} {s : Nat} {hd d : Int32} (hn : ((A ++ B) ++ s :: F).Nodup) (h4 : ∀ x, x ∈ (A ++ B) ++ s :: F → x < 4) (h1 : hk_LS nx hd A d) (h2 : hk_LS nx d B (-1)) (h3 : hk_LS nx (nx s) F (-1)) :
    (A = [] → hk_LS (upd nx s d) (nI s) (A ++ s :: B) (-1) ∧ hk_LS (upd nx s d) (nx s) F (-1)) ∧
    (∀ A0 a, A = A0 ++ [a] → hk_LS (upd (upd nx s d) a (nI s)) hd (A ++ s :: B) (-1) ∧ hk_LS (upd (upd nx s d) a (nI s)) (nx s) F (-1)) := by
  obtain ⟨hn1, hn2, hn3⟩ := List.nodup_append.mp hn
  have hsL : s ∉ A ++ B := fun hx => hn3 s hx s List.mem_cons_self rfl
  have hsA : s ∉ A := fun hx => hsL (List.mem_append.mpr (Or.inl hx))
  have hsB : s ∉ B := fun hx => hsL (List.mem_append.mpr (Or.inr hx))
  have hsF : s ∉ F := (List.nodup_cons.mp hn2).1
  constructor
  · intro e
    subst e
    refine ⟨⟨rfl, ?_⟩, hk_LSup hsF h3⟩
    rw [pk_us]
    exact hk_LSup hsB h2
  · intro A0 a e
    subst e
    have haM : a ∈ A0 ++ [a] := List.mem_append.mpr (Or.inr List.mem_cons_self)
    have haL : a ∈ (A0 ++ [a]) ++ B := List.mem_append.mpr (Or.inl haM)
    obtain ⟨hm1, hm2, hm3⟩ := List.nodup_append.mp hn1
    have haB : a ∉ B := fun hx => hm3 a haM a hx rfl
    have haA : a ∉ A0 := fun hx => (List.nodup_append.mp hm1).2.2 a hx a List.mem_cons_self rfl
    have haF : a ∉ F := fun hx => hn3 a haL a (List.mem_cons_of_mem _ hx) rfl
    have has : s ≠ a := fun e => hn3 a haL s List.mem_cons_self e.symm
    refine ⟨hk_LSapp (hk_LSset haA (hk_LSup hsA h1)) ⟨rfl, ?_⟩, hk_LSup haF (hk_LSup hsF h3)⟩
    rw [pk_un has, pk_us]
    exact hk_LSup haB (hk_LSup hsB h2)
theorem hk_last (A : List Nat) : A = [] ∨ ∃ A0 a, A = A0 ++ [a] := by
  cases A with
  | nil => exact Or.inl rfl
  | cons x r => exact Or.inr ⟨(x :: r).dropLast, (x :: r).getLast (List.cons_ne_nil _ _), (List.dropLast_concat_getLast _).symm⟩
theorem i_vc_registerValidation {k : Nat} {u : SX} {v : SY} (I : i_Rel k u v) (hk : k + 3 ≤ 1537) (v1 : Int32) (v2 : Int32) : wpX_registerValidation (fun r u' => wpY_registerValidation (fun r' v' => r' = r ∧ i_Rel (k + 3) u' v') v v1 v2) u v1 v2 := by
  have I3 := i_up I
  obtain ⟨f_cap, f_top, f_depth, f_head, f_free, f_count, a_objId, a_descId, a_used, a_entry, a_vObj, a_vPrio, a_vNext⟩ := u
  obtain ⟨g_cap, g_n, g_m, g_clock, b_open, b_frame, b_uses, b_hi, b_lo, b_who, b_when⟩ := v
  obtain ⟨c, t, m, op, rfl, rfl, rfl, rfl, rfl, rfl, rfl, rfl, hc1, hc4, hH, hQ⟩ := I
  obtain ⟨dx, dy⟩ := hk_dep hH (by omega)
  by_cases z : op 0 = 0
  · exact br_t (dx.mpr z) (br_t (dy.mpr z) ⟨rfl, I3⟩)
  have zx : ¬ lN (hk_sm op (t + 1)) = 0 := fun h => z (dx.mp h)
  have zy : ¬ (fun j => lN (op j)) 0 = 0 := fun h => z (dy.mp h)
  refine br_f zx ?_
  by_cases z1 : v1 = 0
  · exact br_t z1 (br_f zy (br_t z1 ⟨rfl, I3⟩))
  refine br_f z1 ?_
  obtain ⟨L, F, tm, pr, ck, hq⟩ := hQ
  have hmc := hk_len hq
  by_cases z2 : c ≤ m
  · have e : m = c := by omega
    exact br_t (nI_le z2 (by omega)) (br_f zy (br_f z1 (br_t (congrArg nI e) ⟨rfl, I3⟩)))
  have hmF := hq.2.1
  cases F with
  | nil =>
    rw [List.length_nil] at hmF
    omega
  | cons s F' =>
    have hn := hq.2.2.1
    have h4 := hq.2.2.2.1
    have hl := hq.2.2.2.2.1
    have hf := hq.2.2.2.2.2.1
    have hcl := hq.2.2.2.2.2.2.1
    have hs4 : s < 4 := h4 s (List.mem_append.mpr (Or.inr List.mem_cons_self))
    have hLm := hq.1
    have ec := hk_cl hs4
    have e := hf.1
    subst e
    refine br_f (nI_ge (by omega) (by omega)) (br_f (nI_pos (by omega)) (br_t (nI_lt (b := 4) hs4 (by decide)) ⟨hk_in hs4, nm_r (e' := a_vNext s) (by rw [ec]) ⟨hk_in hs4, nm_r (e' := upd a_vObj s v1) (by rw [ec]) ⟨hk_in hs4, nm_r (e' := upd a_vPrio s v2) (by rw [ec]) ⟨m + 1, ?_⟩⟩⟩⟩))
    have hsL : s ∉ L := fun hx => (List.nodup_append.mp hn).2.2 s hx s List.mem_cons_self rfl
    refine hk_xreg L (m + 1) 0 (-1) f_head hl (fun x hx => h4 x (List.mem_append.mpr (Or.inl hx))) (by omega) (by omega) ?_
    intro A B d eL hA hB h1 h2
    subst eL
    have hA' : ∀ a, a ∈ A → v2 < a_vPrio a := fun a ha => by
      have h := hA a ha
      have hne : a ≠ s := fun e => hsL (by rw [← e]; exact List.mem_append.mpr (Or.inl ha))
      rw [pk_un hne] at h
      exact h
    have hB' : ∀ b r, B = b :: r → a_vPrio b ≤ v2 := fun b r e => by
      have h := hB b r e
      have hne : b ≠ s := fun e' => hsL (by rw [← e', e]; exact List.mem_append.mpr (Or.inr List.mem_cons_self))
      rw [pk_un hne] at h
      exact h
    have hd : hk_sl d := hk_slOf h2 (fun x hx => h4 x (List.mem_append.mpr (Or.inl (List.mem_append.mpr (Or.inr hx)))))
    have hu : upd a_vNext (nI s).toNatClampNeg (vp_nar .short d.toInt16.toInt32) = upd a_vNext s d := by rw [ec, hk_nar hd]
    have hm4 : m < 4 := by omega
    have em := hk_cl hm4
    have hne : ¬ nI m = nI c := by
      rw [nI_eq (by omega) (by omega)]
      omega
    have Y : ∀ (u' : SX), i_Rel (k + 3) u' (nI c, nI t, nI (m + 1), lN (ck + 1), (fun j => lN (op j)), b_frame, b_uses, upd b_hi m (hk_hi v2), upd b_lo m (hk_lo v2), upd b_who m v1, vp_updL b_when m (lN (ck + 1))) →
        wpY_registerValidation (fun r' v' => r' = 0 ∧ i_Rel (k + 3) u' v') (nI c, nI t, nI m, g_clock, (fun j => lN (op j)), b_frame, b_uses, b_hi, b_lo, b_who, b_when) v1 v2 := by
      intro u' R
      have e1 : g_clock + 1 = lN (ck + 1) := by rw [hcl, lN_1]
      exact br_f zy (br_f z1 (br_f hne ⟨hk_in hm4, nm_r (e' := upd b_hi m (hk_hi v2)) (by rw [em]; exact congrArg (upd b_hi m) (hk_narHi v2)) ⟨hk_in hm4, nm_r (e' := upd b_lo m (hk_lo v2)) (by rw [em]; exact congrArg (upd b_lo m) (hk_narLo v2)) ⟨hk_in hm4, nm_r (e' := upd b_who m v1) (by rw [em]) (nm_r (nI_1 m) (nm_r e1 ⟨hk_in hm4, nm_r (e' := vp_updL b_when m (lN (ck + 1))) (by rw [em, e1]) ⟨rfl, R⟩⟩))⟩⟩⟩))
    obtain ⟨k0, k1⟩ := hk_link hn h4 h1 h2 hf.2
    refine ⟨hk_in hs4, nm_r hu ?_⟩
    rcases hk_last A with e | ⟨A0, a, e⟩
    · have hl' := k0 e
      have hpv : hk_pv (-1) A = -1 := by rw [e]; rfl
      rw [hpv]
      refine br_f hk_m1nle (nm_r (nI_1 m) (Y _ ?_))
      exact ⟨c, t, m + 1, op, rfl, rfl, rfl, rfl, rfl, rfl, rfl, rfl, hc1, hc4, hk_Hup (by omega) hH, hk_ins hk hq hA' hB' hl'.1 hl'.2⟩
    · have hl' := k1 A0 a e
      have ha4 : a < 4 := h4 a (by rw [e]; simp)
      have hpv : hk_pv (-1) A = nI a := by rw [e]; exact hk_pvA a A0 _
      rw [hpv]
      have hu2 : upd (upd a_vNext s d) (nI a).toNatClampNeg (vp_nar .short (nI s).toInt16.toInt32) = upd (upd a_vNext s d) a (nI s) := by
        rw [hk_cl ha4, hk_nar (Or.inr ⟨s, hs4, rfl⟩)]
      refine br_t (nI_pos' (by omega)) ⟨hk_in ha4, nm_r hu2 (nm_r (nI_1 m) (Y _ ?_))⟩
      exact ⟨c, t, m + 1, op, rfl, rfl, rfl, rfl, rfl, rfl, rfl, rfl, hc1, hc4, hk_Hup (by omega) hH, hk_ins hk hq hA' hB' hl'.1 hl'.2⟩
theorem i_vc_drainNext {k : Nat} {u : SX} {v : SY} (I : i_Rel k u v) (hk : k + 3 ≤ 1537) (v1 : Int32) : wpX_drainNext (fun r u' => wpY_drainNext (fun r' v' => r' = r ∧ i_Rel (k + 3) u' v') v (lw_bz v1)) u (lw_bz v1) := by
  have I3 := i_up I
  obtain ⟨f_cap, f_top, f_depth, f_head, f_free, f_count, a_objId, a_descId, a_used, a_entry, a_vObj, a_vPrio, a_vNext⟩ := u
  obtain ⟨g_cap, g_n, g_m, g_clock, b_open, b_frame, b_uses, b_hi, b_lo, b_who, b_when⟩ := v
  obtain ⟨c, t, m, op, rfl, rfl, rfl, rfl, rfl, rfl, rfl, rfl, hc1, hc4, hH, hQ⟩ := I
  obtain ⟨dx, dy⟩ := hk_dep hH (by omega)
  by_cases z : op 0 = 0
  rotate_left
  · have zx : ¬ lN (hk_sm op (t + 1)) = 0 := fun h => z (dx.mp h)
    have zy : ¬ (fun j => lN (op j)) 0 = 0 := fun h => z (dy.mp h)
    exact br_f zx (br_f zy ⟨rfl, I3⟩)
  have zx : lN (hk_sm op (t + 1)) = 0 := dx.mpr z
  have zy : (fun j => lN (op j)) 0 = 0 := dy.mpr z
  obtain ⟨L, F, tm, pr, ck, hq⟩ := hQ
  have hmc := hk_len hq
  have hn := hq.2.2.1
  have h4 := hq.2.2.2.1
  have hl := hq.2.2.2.2.1
  have hf := hq.2.2.2.2.2.1
  have hLm := hq.1
  rcases lw_bz_01 v1 with e | e
  · rw [e]
    refine br_t zx (br_t rfl ?_)
    cases L with
    | nil =>
      have e0 : m = 0 := by rw [← hLm]; rfl
      subst e0
      exact br_t nI_0 (br_t zy (br_t rfl (br_t nI_0 ⟨rfl, I3⟩)))
    | cons s r =>
      rw [List.length_cons] at hLm
      obtain ⟨m, rfl⟩ : ∃ m', m = m' + 1 := ⟨m - 1, by omega⟩
      have hs4 : s < 4 := h4 s List.mem_cons_self
      have ec := hk_cl hs4
      have hm4 : m < 4 := by omega
      have em := hk_cl hm4
      have hn0 : ¬ nI (m + 1) = 0 := nI_ne0 (by omega) (by omega)
      have eh := hl.1
      subst eh
      have hfr : hk_sl f_free := hk_slOf hf (fun x hx => h4 x (List.mem_append.mpr (Or.inr hx)))
      have hu : upd a_vNext (nI s).toNatClampNeg (vp_nar .short f_free.toInt16.toInt32) = upd a_vNext s f_free := by rw [ec, hk_nar hfr]
      refine br_f hn0 (br_f (nI_pos (by omega)) (br_t (nI_lt (b := 4) hs4 (by decide)) ⟨hk_in hs4, nm_r (e' := a_vNext s) (by rw [ec]) ⟨hk_in hs4, nm_r hu (nm_r (nI_pred m) ⟨hk_in hs4, ?_⟩)⟩⟩))
      refine br_t zy (br_t rfl (br_f hn0 (hk_yfirst (pr := pr) (by omega) (by omega) hq.2.2.2.2.2.2.2.2.2.2.1 ?_)))
      intro b hb hg
      have ht := hk_top hq hb hg
      have hb4 : b < 4 := by omega
      have eb := hk_cl hb4
      have pm := hq.2.2.2.2.2.2.2.2.2.2.1 m (by omega)
      have hw : b_who b = a_vObj s := congrArg (fun x => x.2.1) ht
      have n1 : vp_nar .short (b_hi m) = b_hi m := by rw [pm.1]; exact hk_narHi _
      have n2 : vp_nar .char (b_lo m) = b_lo m := by rw [pm.2]; exact hk_narLo _
      have u1 : upd b_hi (nI b).toNatClampNeg (vp_nar .short (b_hi (nI m).toNatClampNeg)) = upd b_hi b (b_hi m) := by rw [eb, em, n1]
      have u2 : upd b_lo (nI b).toNatClampNeg (vp_nar .char (b_lo (nI m).toNatClampNeg)) = upd b_lo b (b_lo m) := by rw [eb, em, n2]
      have u3 : upd b_who (nI b).toNatClampNeg (b_who (nI m).toNatClampNeg) = upd b_who b (b_who m) := by rw [eb, em]
      have u4 : vp_updL b_when (nI b).toNatClampNeg (b_when (nI m).toNatClampNeg) = vp_updL b_when b (b_when m) := by rw [eb, em]
      refine ⟨hk_in hb4, nm_r (e' := b_who b) (by rw [eb]) (nm_r (nI_pred m) ⟨hk_in hm4, hk_in hb4, nm_r u1 ⟨hk_in hm4, hk_in hb4, nm_r u2 ⟨hk_in hm4, hk_in hb4, nm_r u3 ⟨hk_in hm4, hk_in hb4, nm_r u4 ⟨?_, ?_⟩⟩⟩⟩⟩)⟩
      · rw [hw, ec]
      · exact ⟨c, t, m, op, rfl, rfl, rfl, rfl, rfl, rfl, rfl, rfl, hc1, hc4, hk_Hup (by omega) hH, hk_pop hq hb ht⟩
  · rw [e]
    refine br_t zx (br_f (by decide) ⟨m + 1, ?_⟩)
    refine hk_xdrain L F (m + 1) 0 f_head f_free a_vNext hn h4 hl hf (by omega) (by omega) ?_
    intro F' nx' fr' e1 e2 e3 e4
    refine br_t zy (br_f (by decide) (br_t rfl ⟨rfl, ?_⟩))
    have hFc := hq.2.1
    exact ⟨c, t, 0, op, rfl, rfl, rfl, rfl, rfl, rfl, rfl, rfl, hc1, hc4, hk_Hup (by omega) hH, [], F', tm, pr, ck, rfl, by omega, e2, e3, rfl, e4, hq.2.2.2.2.2.2.1, by have := hq.2.2.2.2.2.2.2.1; omega, fun x hx => absurd hx List.not_mem_nil, List.Pairwise.nil, fun i hi => absurd hi (by omega), List.Perm.nil⟩
theorem i_vc_peek {k : Nat} {u : SX} {v : SY} (I : i_Rel k u v) (hk : k + 3 ≤ 1537) : wpX_peek (fun r => wpY_peek (fun r' => r' = r ∧ i_Rel (k + 3) u v) v) u := by
  have I3 := i_up I
  obtain ⟨f_cap, f_top, f_depth, f_head, f_free, f_count, a_objId, a_descId, a_used, a_entry, a_vObj, a_vPrio, a_vNext⟩ := u
  obtain ⟨g_cap, g_n, g_m, g_clock, b_open, b_frame, b_uses, b_hi, b_lo, b_who, b_when⟩ := v
  obtain ⟨c, t, m, op, rfl, rfl, rfl, rfl, rfl, rfl, rfl, rfl, hc1, hc4, hH, hQ⟩ := I
  obtain ⟨L, F, tm, pr, ck, hq⟩ := hQ
  have hmc := hk_len hq
  have h4 := hq.2.2.2.1
  have hl := hq.2.2.2.2.1
  have hLm := hq.1
  cases L with
  | nil =>
    have e0 : m = 0 := by rw [← hLm]; rfl
    subst e0
    exact br_t nI_0 (br_t nI_0 ⟨rfl, I3⟩)
  | cons s r =>
    rw [List.length_cons] at hLm
    have hs4 : s < 4 := h4 s List.mem_cons_self
    have ec := hk_cl hs4
    have hn0 : ¬ nI m = 0 := nI_ne0 (by omega) (by omega)
    have eh := hl.1
    subst eh
    refine br_f hn0 (br_f (nI_pos (by omega)) (br_t (nI_lt (b := 4) hs4 (by decide)) ⟨hk_in hs4, hk_in hs4, ?_⟩))
    refine br_f hn0 (hk_yfirst (pr := pr) (by omega) (by omega) hq.2.2.2.2.2.2.2.2.2.2.1 ?_)
    intro b hb hg
    have ht := hk_top hq hb hg
    have hb4 : b < 4 := by omega
    have eb := hk_cl hb4
    have pb := hq.2.2.2.2.2.2.2.2.2.2.1 b hb
    have hw : b_who b = a_vObj s := congrArg (fun x => x.2.1) ht
    have hp : pr b = a_vPrio s := congrArg (fun x => x.1) ht
    refine ⟨hk_in hb4, hk_in hb4, hk_in hb4, ?_, I3⟩
    rw [eb, ec, pb.1, pb.2, hk_pack, hw, hp]
theorem i_vc_pending {k : Nat} {u : SX} {v : SY} (I : i_Rel k u v) (hk : k + 3 ≤ 1537) : wpX_pending (fun r => wpY_pending (fun r' => r' = r ∧ i_Rel (k + 3) u v) v) u := by
  have I3 := i_up I
  obtain ⟨f_cap, f_top, f_depth, f_head, f_free, f_count, a_objId, a_descId, a_used, a_entry, a_vObj, a_vPrio, a_vNext⟩ := u
  obtain ⟨g_cap, g_n, g_m, g_clock, b_open, b_frame, b_uses, b_hi, b_lo, b_who, b_when⟩ := v
  obtain ⟨c, t, m, op, rfl, rfl, rfl, rfl, rfl, rfl, rfl, rfl, hc1, hc4, hH, hQ⟩ := I
  exact ⟨rfl, I3⟩
end
section
theorem hk_nm1 : vp_nar .short (-1) = -1 := by rw [vp_nar_short]; exact hk_narM
/-- the links that the constructor writes -/
def hk_e (c j : Nat) : Int32 := if j + 1 < c then nI (j + 1) else -1
theorem hk_eLS {c : Nat} {nx : Nat → Int32} (h : ∀ j, j < c → nx j = hk_e c j) : ∀ d j : Nat, j + d = c → hk_LS nx (if j < c then nI j else -1) (List.range' j d) (-1) := by
  intro d
  induction d with
  | zero =>
    intro j hj
    rw [if_neg (by omega)]
    exact rfl
  | succ d ih =>
    intro j hj
    rw [if_pos (by omega)]
    refine ⟨rfl, ?_⟩
    rw [h j (by omega)]
    exact ih (j + 1) (by omega)
section
variable {f_cap f_top f_head f_free f_count : Int32} {f_depth : Int64} {a_objId a_descId a_used a_vObj a_vPrio : Nat → Int32} {a_entry : Nat → Int64}
theorem hk_xinit {post : SX → Prop} {c : Nat} (hc : c ≤ 4)
    (K : ∀ nx : Nat → Int32, (∀ j, j < 4 → nx j = hk_e c j) → post (f_cap, f_top, f_depth, f_head, 0, f_count, a_objId, a_descId, a_used, a_entry, a_vObj, a_vPrio, nx)) :
    ∀ (d i n : Nat) (nx : Nat → Int32), i + d = 4 → d < n → (∀ j, j < i → nx j = hk_e c j) →
      wX_init_96 post (nI c) f_cap f_top f_depth f_head f_free f_count n (nI i) a_objId a_descId a_used a_entry a_vObj a_vPrio nx := by
  intro d
  induction d with
  | zero =>
    intro i n nx hi hn h
    obtain ⟨n, rfl⟩ : ∃ n', n = n' + 1 := ⟨n - 1, by omega⟩
    have e : i = 4 := by omega
    subst e
    exact br_t (Int32.le_refl _) (K nx h)
  | succ d ih =>
    intro i n nx hi hn h
    obtain ⟨n, rfl⟩ : ∃ n', n = n' + 1 := ⟨n - 1, by omega⟩
    have hi4 : i < 4 := by omega
    have ec := hk_cl hi4
    have e1 := nI_1 i
    have step : ∀ x : Int32, x = hk_e c i → ∀ j, j < i + 1 → upd nx i x j = hk_e c j := by
      intro x ex j hj
      by_cases e : j = i
      · rw [e, pk_us, ex]
      · rw [pk_un e, h j (by omega)]
    refine br_f (nI_ge (a := i) (b := 4) hi4 (by decide)) ?_
    by_cases z : c ≤ i + 1
    · refine br_t (by rw [e1]; exact nI_le z (by omega)) ⟨hk_in hi4, nm_r (e' := upd nx i (-1)) (by rw [ec, hk_nm1]) (nm_r e1 (ih (i + 1) n _ (by omega) (by omega) (step _ ?_)))⟩
      unfold hk_e
      rw [if_neg (by omega)]
    · refine br_f (by rw [e1]; exact nI_ge (by omega) (by omega)) ⟨hk_in hi4, nm_r (e' := upd nx i (nI (i + 1))) (by rw [ec, e1, hk_nar (Or.inr ⟨i + 1, by omega, rfl⟩)]) (nm_r e1 (ih (i + 1) n _ (by omega) (by omega) (step _ ?_)))⟩
      unfold hk_e
      rw [if_pos (by omega)]
end
theorem hk_R0 {c : Nat} (h1 : 1 ≤ c) (hc : c ≤ 4) {nx : Nat → Int32} (h : ∀ j, j < 4 → nx j = hk_e c j) :
    i_Rel 1 (nI c, 0, 0, -1, 0, 0, (fun _ => 0), (fun _ => 0), (fun _ => 0), (fun _ => 0), (fun _ => 0), (fun _ => 0), nx) (nI c, 0, 0, 0, (fun _ => 0), (fun _ => 0), (fun _ => 0), (fun _ => 0), (fun _ => 0), (fun _ => 0), (fun _ => 0)) := by
  have hL := hk_eLS (fun j hj => h j (by omega)) c 0 (by omega)
  rw [if_pos (by omega)] at hL
  refine ⟨c, 0, 0, fun _ => 0, rfl, rfl, rfl, rfl, rfl, rfl, rfl, rfl, h1, hc, ⟨by omega, ?_, fun j hj => absurd hj (by omega), fun _ _ => rfl⟩, [], List.range' 0 c, fun _ => 0, fun _ => 0, 0, rfl, ?_, ?_, ?_, rfl, hL, rfl, by omega, fun x hx => absurd hx List.not_mem_nil, List.Pairwise.nil, fun i hi => absurd hi (by omega), List.Perm.nil⟩
  · show 0 + 0 ≤ 1
    omega
  · rw [List.length_range']
    omega
  · exact List.nodup_range'
  · intro s hs
    have := List.mem_range'_1.mp hs
    omega
theorem hk_i69 {c : Nat} (h1 : 1 ≤ c) (hc : c ≤ 4) {post : SX → Prop} (K : ∀ u : SX, i_Rel 1 u (nI c, 0, 0, 0, (fun _ => 0), (fun _ => 0), (fun _ => 0), (fun _ => 0), (fun _ => 0), (fun _ => 0), (fun _ => 0)) → post u) :
    wX_init_69 post (nI c) 0 0 0 0 0 0 (fun _ => 0) (fun _ => 0) (fun _ => 0) (fun _ => 0) (fun _ => 0) (fun _ => 0) (fun _ => 0) :=
  ⟨5, hk_xinit hc (fun _ hnx => K _ (hk_R0 h1 hc hnx)) 4 0 5 _ (by omega) (by omega) (fun j hj => absurd hj (by omega))⟩
theorem i_vc0 (k0 : Int32) : wpX_init (fun u => wpY_init (fun v => i_Rel 1 u v) k0) k0 := by
  by_cases h1 : 1 ≤ k0
  · refine br_t h1 ?_
    by_cases h4 : k0 ≤ 4
    · refine br_t h4 ?_
      have h0 : ¬ k0 < 0 := fun h => by
        rw [Int32.lt_iff_toInt_lt, show (0 : Int32).toInt = 0 by decide] at h
        rw [Int32.le_iff_toInt_le, show (1 : Int32).toInt = 1 by decide] at h1
        omega
      obtain ⟨c, hc, e⟩ := nI_of2 (M := 4) (n := 4) (by decide) h0 h4
      have hc1 : 1 ≤ c := by
        rw [e, Int32.le_iff_toInt_le, show (1 : Int32).toInt = 1 by decide, nI_toInt (by omega)] at h1
        omega
      subst e
      exact hk_i69 hc1 hc (fun u hu => br_t h1 (br_t h4 hu))
    · refine br_f h4 ?_
      exact hk_i69 (c := 4) (by omega) (by omega) (fun u hu => br_t h1 (br_f h4 hu))
  · refine br_f h1 (br_t (by decide) ?_)
    exact hk_i69 (c := 1) (by omega) (by omega) (fun u hu => br_f h1 hu)
end
