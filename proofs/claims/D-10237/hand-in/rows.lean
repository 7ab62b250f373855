section
/-! ===== bits: out of the kit's BITS family (renamed) ===== -/
def kz_bt (x : Int32) (i : Nat) : Bool := x.toBitVec.getLsbD i
theorem kz_bext {x y : Int32} (h : ∀ i, i < 32 → kz_bt x i = kz_bt y i) : x = y := Int32.toBitVec_inj.mp (BitVec.eq_of_getLsbD_eq (fun i hi => h i hi))
theorem kz_bor (x y : Int32) (i : Nat) : kz_bt (x ||| y) i = (kz_bt x i || kz_bt y i) := by unfold kz_bt; rw [Int32.toBitVec_or, BitVec.getLsbD_or]
theorem kz_band (x y : Int32) (i : Nat) : kz_bt (x &&& y) i = (kz_bt x i && kz_bt y i) := by unfold kz_bt; rw [Int32.toBitVec_and, BitVec.getLsbD_and]
theorem kz_bxor (x y : Int32) (i : Nat) : kz_bt (x ^^^ y) i = (kz_bt x i ^^ kz_bt y i) := by unfold kz_bt; rw [Int32.toBitVec_xor, BitVec.getLsbD_xor]
theorem kz_bbig {x : Int32} {i : Nat} (h : 32 ≤ i) : kz_bt x i = false := BitVec.getLsbD_of_ge _ _ h
theorem kz_b255 (i : Nat) : kz_bt 255 i = decide (i < 8) := by
  rcases Nat.lt_or_ge i 32 with h | h
  · exact (by decide +kernel : ∀ i, i < 32 → kz_bt 255 i = decide (i < 8)) i h
  · rw [kz_bbig h, decide_eq_false (by omega)]
theorem kz_b0 (i : Nat) : kz_bt 0 i = false := BitVec.getLsbD_zero
theorem kz_sl : ∀ n, n < 32 → ((nI n &&& 31).toBitVec.smod 32).toNat = n := by decide +kernel
theorem kz_su : ∀ n, n < 32 → (((nI n).toUInt32 &&& Int32.toUInt32 31).toBitVec % 32).toNat = n := by decide +kernel
theorem kz_bshl (n : Nat) (hn : n < 32) (x : Int32) {i : Nat} (hi : i < 32) : kz_bt (x <<< (nI n &&& 31)) i = (decide (n ≤ i) && kz_bt x (i - n)) := by
  unfold kz_bt
  rw [Int32.toBitVec_shiftLeft]
  show (x.toBitVec <<< ((nI n &&& 31).toBitVec.smod 32).toNat).getLsbD i = _
  rw [kz_sl n hn, BitVec.getLsbD_shiftLeft]
  rcases Nat.lt_or_ge i n with h | h
  · simp [h, Nat.not_le.mpr h]
  · simp [hi, h, Nat.not_lt.mpr h]
theorem kz_bushr (n : Nat) (hn : n < 32) (x : Int32) (i : Nat) : kz_bt ((x.toUInt32 >>> ((nI n).toUInt32 &&& Int32.toUInt32 31)).toInt32) i = kz_bt x (n + i) := by
  show (x.toUInt32 >>> ((nI n).toUInt32 &&& Int32.toUInt32 31)).toBitVec.getLsbD i = x.toUInt32.toBitVec.getLsbD (n + i)
  rw [UInt32.toBitVec_shiftRight]
  show (x.toUInt32.toBitVec >>> (((nI n).toUInt32 &&& Int32.toUInt32 31).toBitVec % 32).toNat).getLsbD i = _
  rw [kz_su n hn, BitVec.getLsbD_ushiftRight]
theorem kz_bshl8 (x : Int32) {i : Nat} (hi : i < 32) : kz_bt (x <<< ((8 : Int32) &&& 31)) i = (decide (8 ≤ i) && kz_bt x (i - 8)) := kz_bshl 8 (by omega) x hi

/-! ===== a byte ===== -/
def kz_by (b : Int32) : Prop := ∃ n : Nat, n < 256 ∧ b = nI n
theorem kz_by_nn {b : Int32} (h : kz_by b) : ¬ b < 0 := by
  obtain ⟨n, hn, rfl⟩ := h
  exact nI_pos (by omega)
theorem kz_sh16 : ∀ n, n < 256 → (nI n).toInt16.toInt32 = nI n := by decide +kernel
theorem kz_by_sh {b : Int32} (h : kz_by b) : b.toInt16.toInt32 = b := by
  obtain ⟨n, hn, rfl⟩ := h
  exact kz_sh16 n hn
theorem kz_by_sub {a b : Int32} (ha : kz_by a) (hb : kz_by b) : (a - b).toInt = a.toInt - b.toInt := by
  obtain ⟨n, hn, rfl⟩ := ha
  obtain ⟨m, hm, rfl⟩ := hb
  rw [pk_sub_toInt (by omega) (by omega), nI_toInt (by omega), nI_toInt (by omega)]
theorem kz_sub0 {a b : Int32} (ha : kz_by a) (hb : kz_by b) : a - b = 0 ↔ a = b := by
  rw [← Int32.toInt_inj, ← Int32.toInt_inj, kz_by_sub ha hb]
  show a.toInt - b.toInt = 0 ↔ _
  omega
theorem kz_subn {a b : Int32} (ha : kz_by a) (hb : kz_by b) (h : a < b) : a - b < 0 := by
  rw [Int32.lt_iff_toInt_lt] at h ⊢
  rw [kz_by_sub ha hb]
  show a.toInt - b.toInt < 0
  omega
theorem kz_subp {a b : Int32} (ha : kz_by a) (hb : kz_by b) (h : b < a) : 0 < a - b := by
  rw [Int32.lt_iff_toInt_lt] at h ⊢
  rw [kz_by_sub ha hb]
  show 0 < a.toInt - b.toInt
  omega
theorem kz_tri (a b : Int32) : a < b ∨ a = b ∨ b < a := by
  rw [Int32.lt_iff_toInt_lt, Int32.lt_iff_toInt_lt, ← Int32.toInt_inj]
  omega
theorem kz_irr (a : Int32) : ¬ a < a := by
  rw [Int32.lt_iff_toInt_lt]
  omega
theorem kz_tr {a b c : Int32} (h : a < b) (h2 : b < c) : a < c := by
  rw [Int32.lt_iff_toInt_lt] at h h2 ⊢
  omega

/-! ===== the schema's bits, turning, the bytes of an int ===== -/
def kz_tx (s : Int32) (f : Nat) : Bool := decide (((s >>> ((4 * nI f) &&& 31)) &&& 1) = 1)
def kz_ds (s : Int32) (f : Nat) : Bool := decide (((s >>> ((4 * nI f) &&& 31)) &&& 2) = 2)
def kz_nf (s : Int32) (f : Nat) : Bool := decide (((s >>> ((4 * nI f) &&& 31)) &&& 4) = 4)
def kz_T (s : Int32) (f : Nat) (b : Int32) : Int32 := if kz_ds s f then 255 - b else b
theorem kz_TT (s : Int32) (f : Nat) (b : Int32) : kz_T s f (kz_T s f b) = b := by
  unfold kz_T
  split
  · grind
  · rfl
theorem kz_Tinj {s : Int32} {f : Nat} {b c : Int32} (h : kz_T s f b = kz_T s f c) : b = c := by
  rw [← kz_TT s f b, h, kz_TT]
theorem kz_Tby {s : Int32} {f : Nat} {b : Int32} (h : kz_by b) : kz_by (kz_T s f b) := by
  unfold kz_T
  split
  · obtain ⟨n, hn, rfl⟩ := h
    exact ⟨255 - n, by omega, pk_sub (show n ≤ 255 by omega)⟩
  · exact h
def kz_ub (v : Int32) (k : Nat) : Int32 := (v.toUInt32 >>> ((nI k).toUInt32 &&& Int32.toUInt32 31)).toInt32 &&& 255
def kz_ib (x : Int32) (k : Nat) : Int32 := kz_ub (x ^^^ (-2147483648)) k
theorem kz_ub_by (v : Int32) (k : Nat) : kz_by (kz_ub v k) := by
  obtain ⟨j, hj, e⟩ := pk_andE (v.toUInt32 >>> ((nI k).toUInt32 &&& Int32.toUInt32 31)).toInt32 (m := 255) 8 rfl
  exact ⟨j, hj, e⟩
theorem kz_ub_bt (v : Int32) (k j : Nat) (hk : k < 32) : kz_bt (kz_ub v k) j = (kz_bt v (k + j) && decide (j < 8)) := by
  unfold kz_ub
  rw [kz_band, kz_bushr k hk, kz_b255]
theorem kz_join (v : Int32) : ((((((((0 : Int32) <<< ((8 : Int32) &&& 31)) ||| kz_ub v 24) <<< ((8 : Int32) &&& 31)) ||| kz_ub v 16) <<< ((8 : Int32) &&& 31)) ||| kz_ub v 8) <<< ((8 : Int32) &&& 31)) ||| kz_ub v 0 = v := by
  refine kz_bext (fun i hi => ?_)
  rw [kz_bor, kz_bshl8 _ hi, kz_bor, kz_bshl8 _ (show i - 8 < 32 by omega), kz_bor, kz_bshl8 _ (show i - 8 - 8 < 32 by omega), kz_bor, kz_bshl8 _ (show i - 8 - 8 - 8 < 32 by omega), kz_b0]
  rw [kz_ub_bt v 0 _ (by omega), kz_ub_bt v 8 _ (by omega), kz_ub_bt v 16 _ (by omega), kz_ub_bt v 24 _ (by omega)]
  rcases (show i < 8 ∨ (8 ≤ i ∧ i < 16) ∨ (16 ≤ i ∧ i < 24) ∨ 24 ≤ i by omega) with h | h | h | h
  · rw [decide_eq_false (p := 8 ≤ i) (by omega), decide_eq_true (p := i < 8) h, Nat.zero_add]
    simp
  · rw [decide_eq_true (p := 8 ≤ i) (by omega), decide_eq_false (p := i < 8) (by omega), decide_eq_true (p := i - 8 < 8) (by omega), decide_eq_false (p := 8 ≤ i - 8) (by omega), show 8 + (i - 8) = i by omega]
    simp
  · rw [decide_eq_true (p := 8 ≤ i) (by omega), decide_eq_false (p := i < 8) (by omega), decide_eq_false (p := i - 8 < 8) (by omega), decide_eq_true (p := 8 ≤ i - 8) (by omega), decide_eq_true (p := i - 8 - 8 < 8) (by omega), decide_eq_false (p := 8 ≤ i - 8 - 8) (by omega), show 16 + (i - 8 - 8) = i by omega]
    simp
  · rw [decide_eq_true (p := 8 ≤ i) (by omega), decide_eq_false (p := i < 8) (by omega), decide_eq_false (p := i - 8 < 8) (by omega), decide_eq_true (p := 8 ≤ i - 8) (by omega), decide_eq_false (p := i - 8 - 8 < 8) (by omega), decide_eq_true (p := 8 ≤ i - 8 - 8) (by omega), decide_eq_true (p := i - 8 - 8 - 8 < 8) (by omega), show 24 + (i - 8 - 8 - 8) = i by omega]
    simp
theorem kz_back (x : Int32) : (((((((((0 : Int32) <<< ((8 : Int32) &&& 31)) ||| kz_ib x 24) <<< ((8 : Int32) &&& 31)) ||| kz_ib x 16) <<< ((8 : Int32) &&& 31)) ||| kz_ib x 8) <<< ((8 : Int32) &&& 31)) ||| kz_ib x 0) ^^^ (-2147483648) = x := by
  unfold kz_ib
  rw [kz_join]
  refine kz_bext (fun i _ => ?_)
  rw [kz_bxor, kz_bxor]
  cases kz_bt x i <;> cases kz_bt (-2147483648) i <;> rfl

/-! ===== the code of a value, of a tuple ===== -/
def kz_eT (s : Int32) (f : Nat) : List Int32 → List Int32
  | [] => [kz_T s f 0, kz_T s f 1]
  | c :: l => if c = 0 then kz_T s f 0 :: kz_T s f 255 :: kz_eT s f l else kz_T s f c :: kz_eT s f l
def kz_hb (s : Int32) (f : Nat) : Option (Sum Int32 (List Int32)) → Int32
  | none => if kz_nf s f then 0 else 2
  | some _ => 1
def kz_bd (s : Int32) (f : Nat) : Option (Sum Int32 (List Int32)) → List Int32
  | none => []
  | some (.inl x) => [kz_T s f (kz_ib x 24), kz_T s f (kz_ib x 16), kz_T s f (kz_ib x 8), kz_T s f (kz_ib x 0)]
  | some (.inr l) => kz_eT s f l
def kz_rs (s : Int32) (V : Nat → Option (Sum Int32 (List Int32))) (i : Nat) : Nat → List Int32
  | 0 => []
  | m + 1 => kz_hb s i (V i) :: (kz_bd s i (V i) ++ kz_rs s V (i + 1) m)
def kz_wt (s : Int32) (f : Nat) : Option (Sum Int32 (List Int32)) → Prop
  | none => True
  | some (.inl _) => kz_tx s f = false
  | some (.inr l) => kz_tx s f = true ∧ l.length ≤ 3 ∧ ∀ c, c ∈ l → kz_by c

theorem kz_eT_z (s : Int32) (f : Nat) (l : List Int32) : kz_eT s f (0 :: l) = kz_T s f 0 :: kz_T s f 255 :: kz_eT s f l := by
  show (if (0 : Int32) = 0 then _ else _) = _
  rw [if_pos rfl]
theorem kz_eT_n {s : Int32} {f : Nat} {c : Int32} {l : List Int32} (h : ¬ c = 0) : kz_eT s f (c :: l) = kz_T s f c :: kz_eT s f l := by
  show (if c = 0 then _ else _) = _
  rw [if_neg h]
theorem kz_eT_len (s : Int32) (f : Nat) (l : List Int32) : (kz_eT s f l).length ≤ 2 * l.length + 2 := by
  induction l with
  | nil => exact Nat.le_refl 2
  | cons c l ih =>
    by_cases h : c = 0
    · subst h
      rw [kz_eT_z]
      simp only [List.length_cons]
      omega
    · rw [kz_eT_n h]
      simp only [List.length_cons]
      omega
theorem kz_by0 : kz_by 0 := ⟨0, by omega, rfl⟩
theorem kz_by1 : kz_by 1 := ⟨1, by omega, rfl⟩
theorem kz_by2 : kz_by 2 := ⟨2, by omega, rfl⟩
theorem kz_by255 : kz_by 255 := ⟨255, by omega, rfl⟩
theorem kz_eT_by {s : Int32} {f : Nat} {l : List Int32} (h : ∀ c, c ∈ l → kz_by c) : ∀ b, b ∈ kz_eT s f l → kz_by b := by
  induction l with
  | nil =>
    intro b hb
    have hb' : b ∈ [kz_T s f 0, kz_T s f 1] := hb
    simp only [List.mem_cons, List.not_mem_nil, or_false] at hb'
    rcases hb' with e | e
    · rw [e]
      exact kz_Tby kz_by0
    · rw [e]
      exact kz_Tby kz_by1
  | cons c l ih =>
    have ih' := ih (fun d hd => h d (List.mem_cons_of_mem c hd))
    have hc := h c List.mem_cons_self
    intro b hb
    by_cases e : c = 0
    · subst e
      rw [kz_eT_z] at hb
      simp only [List.mem_cons] at hb
      rcases hb with e | e | e
      · rw [e]
        exact kz_Tby kz_by0
      · rw [e]
        exact kz_Tby kz_by255
      · exact ih' b e
    · rw [kz_eT_n e] at hb
      simp only [List.mem_cons] at hb
      rcases hb with e | e
      · rw [e]
        exact kz_Tby hc
      · exact ih' b e
theorem kz_bd_len {s : Int32} {f : Nat} {v : Option (Sum Int32 (List Int32))} (h : kz_wt s f v) : (kz_bd s f v).length ≤ 8 := by
  rcases v with _ | x | l
  · exact Nat.zero_le 8
  · exact (by decide : 4 ≤ 8)
  · have h1 := kz_eT_len s f l
    have h2 := h.2.1
    show (kz_eT s f l).length ≤ 8
    omega
theorem kz_bd_by {s : Int32} {f : Nat} {v : Option (Sum Int32 (List Int32))} (h : kz_wt s f v) : ∀ b, b ∈ kz_bd s f v → kz_by b := by
  rcases v with _ | x | l
  · intro b hb
    exact absurd hb List.not_mem_nil
  · intro b hb
    have hb' : b ∈ [kz_T s f (kz_ib x 24), kz_T s f (kz_ib x 16), kz_T s f (kz_ib x 8), kz_T s f (kz_ib x 0)] := hb
    simp only [List.mem_cons, List.not_mem_nil, or_false] at hb'
    rcases hb' with e | e | e | e <;> rw [e] <;> exact kz_Tby (kz_ub_by _ _)
  · exact kz_eT_by h.2.2
theorem kz_hb_by (s : Int32) (f : Nat) (v : Option (Sum Int32 (List Int32))) : kz_by (kz_hb s f v) := by
  rcases v with _ | x
  · show kz_by (if kz_nf s f then 0 else 2)
    split
    · exact kz_by0
    · exact kz_by2
  · exact kz_by1
theorem kz_hb_none (s : Int32) (f : Nat) : ¬ kz_hb s f none = 1 := by
  show ¬ (if kz_nf s f then (0 : Int32) else 2) = 1
  split
  · decide
  · decide
theorem kz_rs_len {s : Int32} {V : Nat → Option (Sum Int32 (List Int32))} (h : ∀ f, kz_wt s f (V f)) : ∀ m i, (kz_rs s V i m).length ≤ 9 * m := by
  intro m
  induction m with
  | zero => intro i; exact Nat.le_refl 0
  | succ m ih =>
    intro i
    have h1 := kz_bd_len (h i)
    have h2 := ih (i + 1)
    simp only [kz_rs, List.length_cons, List.length_append]
    omega
theorem kz_rs_by {s : Int32} {V : Nat → Option (Sum Int32 (List Int32))} (h : ∀ f, kz_wt s f (V f)) : ∀ m i b, b ∈ kz_rs s V i m → kz_by b := by
  intro m
  induction m with
  | zero => intro i b hb; exact absurd hb List.not_mem_nil
  | succ m ih =>
    intro i b hb
    simp only [kz_rs, List.mem_cons, List.mem_append] at hb
    rcases hb with e | e | e
    · rw [e]
      exact kz_hb_by s i (V i)
    · exact kz_bd_by (h i) b e
    · exact ih (i + 1) b e

/-! ===== no key begins with another ===== -/
theorem kz_eT_pf (s : Int32) (f : Nat) : ∀ (l l' X Y : List Int32), kz_eT s f l ++ X = kz_eT s f l' ++ Y → kz_eT s f l = kz_eT s f l' ∧ X = Y := by
  have n1 : ¬ kz_T s f 1 = kz_T s f 255 := fun z => absurd (kz_Tinj z) (by decide)
  intro l
  induction l with
  | nil =>
    intro l' X Y h
    rcases l' with _ | ⟨c, l'⟩
    · exact ⟨rfl, List.append_cancel_left h⟩
    · exfalso
      by_cases e : c = 0
      · subst e
        rw [kz_eT_z] at h
        simp only [kz_eT, List.cons_append, List.cons.injEq] at h
        exact n1 h.2.1
      · rw [kz_eT_n e] at h
        simp only [kz_eT, List.cons_append, List.cons.injEq] at h
        exact e (kz_Tinj h.1).symm
  | cons c l ih =>
    intro l' X Y h
    rcases l' with _ | ⟨c', l'⟩
    · exfalso
      by_cases e : c = 0
      · subst e
        rw [kz_eT_z] at h
        simp only [kz_eT, List.cons_append, List.cons.injEq] at h
        exact n1 h.2.1.symm
      · rw [kz_eT_n e] at h
        simp only [kz_eT, List.cons_append, List.cons.injEq] at h
        exact e (kz_Tinj h.1)
    · by_cases e : c = 0
      · by_cases e' : c' = 0
        · subst e
          subst e'
          rw [kz_eT_z, kz_eT_z] at h ⊢
          simp only [List.cons_append, List.cons.injEq] at h
          have q := ih l' X Y h.2.2
          exact ⟨by rw [q.1], q.2⟩
        · subst e
          rw [kz_eT_z, kz_eT_n e'] at h
          simp only [List.cons_append, List.cons.injEq] at h
          exact absurd (kz_Tinj h.1).symm e'
      · by_cases e' : c' = 0
        · subst e'
          rw [kz_eT_z, kz_eT_n e] at h
          simp only [List.cons_append, List.cons.injEq] at h
          exact absurd (kz_Tinj h.1) e
        · rw [kz_eT_n e, kz_eT_n e'] at h ⊢
          simp only [List.cons_append, List.cons.injEq] at h
          have q := ih l' X Y h.2
          exact ⟨by rw [q.1, h.1], q.2⟩
theorem kz_bd_pf {s : Int32} {f : Nat} {v w : Option (Sum Int32 (List Int32))} (hv : kz_wt s f v) (hw : kz_wt s f w) {X Y : List Int32} (h0 : kz_hb s f v = kz_hb s f w) (h : kz_bd s f v ++ X = kz_bd s f w ++ Y) : kz_bd s f v = kz_bd s f w ∧ X = Y := by
  rcases v with _ | x | l
  · rcases w with _ | y
    · exact ⟨rfl, h⟩
    · exact absurd h0 (kz_hb_none s f)
  · rcases w with _ | y | l'
    · exact absurd h0.symm (kz_hb_none s f)
    · simp only [kz_bd, List.cons_append, List.nil_append, List.cons.injEq] at h
      obtain ⟨h1, h2, h3, h4, h5⟩ := h
      refine ⟨?_, h5⟩
      simp only [kz_bd]
      rw [h1, h2, h3, h4]
    · have a : kz_tx s f = false := hv
      have b : kz_tx s f = true := hw.1
      rw [a] at b
      exact absurd b (by decide)
  · rcases w with _ | y | l'
    · exact absurd h0.symm (kz_hb_none s f)
    · have a : kz_tx s f = false := hw
      have b : kz_tx s f = true := hv.1
      rw [a] at b
      exact absurd b (by decide)
    · exact kz_eT_pf s f l l' X Y h
theorem kz_rs_pf {s : Int32} {V W : Nat → Option (Sum Int32 (List Int32))} (hV : ∀ f, kz_wt s f (V f)) (hW : ∀ f, kz_wt s f (W f)) : ∀ (m i : Nat) (X Y : List Int32), kz_rs s V i m ++ X = kz_rs s W i m ++ Y → kz_rs s V i m = kz_rs s W i m ∧ X = Y := by
  intro m
  induction m with
  | zero => intro i X Y h; exact ⟨rfl, h⟩
  | succ m ih =>
    intro i X Y h
    simp only [kz_rs, List.cons_append, List.cons.injEq, List.append_assoc] at h ⊢
    have q := kz_bd_pf (hV i) (hW i) h.1 h.2
    have q2 := ih (i + 1) X Y q.2
    exact ⟨⟨h.1, by rw [q.1, q2.1]⟩, q2.2⟩
end
section
/-! ===== the order of keys ===== -/
def kz_lx : List Int32 → List Int32 → Prop
  | _, [] => False
  | [], _ :: _ => True
  | a :: x, b :: y => a < b ∨ (a = b ∧ kz_lx x y)
theorem kz_lx_n (x : List Int32) : ¬ kz_lx x [] := by
  cases x <;> exact fun h => h
theorem kz_lx_c {a b : Int32} {x y : List Int32} : kz_lx (a :: x) (b :: y) ↔ a < b ∨ (a = b ∧ kz_lx x y) := Iff.rfl
theorem kz_lx_irr : ∀ x : List Int32, ¬ kz_lx x x := by
  intro x
  induction x with
  | nil => exact fun h => h
  | cons a x ih =>
    intro h
    rcases h with h | h
    · exact kz_irr a h
    · exact ih h.2
theorem kz_lx_tr : ∀ x y z : List Int32, kz_lx x y → kz_lx y z → kz_lx x z := by
  intro x
  induction x with
  | nil =>
    intro y z h h2
    rcases z with _ | ⟨c, z⟩
    · exact absurd h2 (kz_lx_n y)
    · exact trivial
  | cons a x ih =>
    intro y z h h2
    rcases y with _ | ⟨b, y⟩
    · exact absurd h (kz_lx_n _)
    · rcases z with _ | ⟨c, z⟩
      · exact absurd h2 (kz_lx_n _)
      · rcases h with h | ⟨h, hh⟩
        · rcases h2 with h2 | ⟨h2, hh2⟩
          · exact Or.inl (kz_tr h h2)
          · exact Or.inl (h2 ▸ h)
        · rcases h2 with h2 | ⟨h2, hh2⟩
          · exact Or.inl (h ▸ h2)
          · exact Or.inr ⟨h.trans h2, ih y z hh hh2⟩
theorem kz_lx_tri : ∀ x y : List Int32, kz_lx x y ∨ x = y ∨ kz_lx y x := by
  intro x
  induction x with
  | nil =>
    intro y
    rcases y with _ | ⟨b, y⟩
    · exact Or.inr (Or.inl rfl)
    · exact Or.inl trivial
  | cons a x ih =>
    intro y
    rcases y with _ | ⟨b, y⟩
    · exact Or.inr (Or.inr trivial)
    · rcases kz_tri a b with h | h | h
      · exact Or.inl (Or.inl h)
      · subst h
        rcases ih y with g | g | g
        · exact Or.inl (Or.inr ⟨rfl, g⟩)
        · exact Or.inr (Or.inl (by rw [g]))
        · exact Or.inr (Or.inr (Or.inr ⟨rfl, g⟩))
      · exact Or.inr (Or.inr (Or.inl h))
/-- x below y, y not above z: x below z -/
theorem kz_lx_lt {x y z : List Int32} (h : kz_lx x y) (h2 : ¬ kz_lx z y) : kz_lx x z := by
  rcases kz_lx_tri y z with g | g | g
  · exact kz_lx_tr x y z h g
  · exact g ▸ h
  · exact absurd g h2
theorem kz_lx_tl {x y z : List Int32} (h : ¬ kz_lx y x) (h2 : kz_lx y z) : kz_lx x z := by
  rcases kz_lx_tri x y with g | g | g
  · exact kz_lx_tr x y z g h2
  · exact g ▸ h2
  · exact absurd g h

/-! ===== the sorted places: lower and upper bounds, the sum ===== -/
def kz_so (J : Nat → List Int32) (e : Nat) : Prop := ∀ i j, i ≤ j → j < e → ¬ kz_lx (J j) (J i)
def kz_lo (J : Nat → List Int32) (e : Nat) (P : List Int32) (b : Nat) : Prop := b ≤ e ∧ (∀ j, j < b → kz_lx (J j) P) ∧ (∀ j, b ≤ j → j < e → ¬ kz_lx (J j) P)
def kz_up (J : Nat → List Int32) (e : Nat) (P : List Int32) (u : Nat) : Prop := u ≤ e ∧ (∀ j, j < u → ¬ kz_lx P (J j)) ∧ (∀ j, u ≤ j → j < e → kz_lx P (J j))
def kz_iv (J : Nat → List Int32) (e p sm la : Nat) : Prop := (p = 0 ∧ sm = 0 ∧ la = 0) ∨ (0 < p ∧ kz_up J e (J (p - 1)) sm ∧ kz_lo J e (J (p - 1)) la)
theorem kz_lo_le {J : Nat → List Int32} {e p b : Nat} (hp : p < e) (h : kz_lo J e (J p) b) : b ≤ p := by
  rcases Nat.lt_or_ge p b with g | g
  · exact absurd (h.2.1 p g) (kz_lx_irr _)
  · exact g
theorem kz_up_lt {J : Nat → List Int32} {e p u : Nat} (hp : p < e) (h : kz_up J e (J p) u) : p < u := by
  rcases Nat.lt_or_ge p u with g | g
  · exact g
  · exact absurd (h.2.2 p g hp) (kz_lx_irr _)
theorem kz_lo_un {J : Nat → List Int32} {e b b' : Nat} {P : List Int32} (h : kz_lo J e P b) (h' : kz_lo J e P b') : b = b' := by
  rcases Nat.lt_trichotomy b b' with g | g | g
  · exact absurd (h'.2.1 b g) (h.2.2 b (Nat.le_refl b) (Nat.lt_of_lt_of_le g h'.1))
  · exact g
  · exact absurd (h.2.1 b' g) (h'.2.2 b' (Nat.le_refl b') (Nat.lt_of_lt_of_le g h.1))
theorem kz_up_un {J : Nat → List Int32} {e b b' : Nat} {P : List Int32} (h : kz_up J e P b) (h' : kz_up J e P b') : b = b' := by
  rcases Nat.lt_trichotomy b b' with g | g | g
  · exact absurd (h.2.2 b (Nat.le_refl b) (Nat.lt_of_lt_of_le g h'.1)) (h'.2.1 b g)
  · exact g
  · exact absurd (h'.2.2 b' (Nat.le_refl b') (Nat.lt_of_lt_of_le g h.1)) (h.2.1 b' g)
theorem kz_step {J : Nat → List Int32} {e p sm la b u : Nat} (hs : kz_so J e) (hp : p < e) (hI : kz_iv J e p sm la) (hb : kz_lo J e (J p) b) (hu : kz_up J e (J p) u) :
    b ≤ p ∧ la ≤ b ∧ p < u ∧ u ≤ e ∧ sm ≤ e ∧ (b = p → sm = p ∧ kz_iv J e (p + 1) u b) ∧ (¬ b = p → kz_iv J e (p + 1) sm b) := by
  have h1 := kz_lo_le hp hb
  have h2 := kz_up_lt hp hu
  refine ⟨h1, ?_, h2, hu.1, ?_, ?_, ?_⟩
  · rcases hI with ⟨_, _, h⟩ | ⟨h0, _, hl⟩
    · omega
    · rcases Nat.lt_or_ge b la with g | g
      · exact absurd (kz_lx_lt (hl.2.1 b g) (hs (p - 1) p (by omega) hp)) (hb.2.2 b (Nat.le_refl b) (by omega))
      · exact g
  · rcases hI with ⟨_, h, _⟩ | ⟨h0, hl, _⟩
    · omega
    · exact hl.1
  · intro eb
    refine ⟨?_, Or.inr ⟨by omega, hu, hb⟩⟩
    rcases hI with ⟨h, h', _⟩ | ⟨h0, hl, _⟩
    · omega
    · have g1 := kz_up_lt (show p - 1 < e by omega) hl
      have g2 : ¬ p < sm := fun z => hl.2.1 p z (hb.2.1 (p - 1) (by omega))
      omega
  · intro eb
    refine Or.inr ⟨by omega, ?_, hb⟩
    rcases hI with ⟨h, h', _⟩ | ⟨h0, hl, _⟩
    · omega
    · have g : ¬ kz_lx (J (p - 1)) (J p) := hb.2.2 (p - 1) (by omega) (by omega)
      have g2 : ¬ kz_lx (J p) (J (p - 1)) := hs (p - 1) p (by omega) hp
      have g3 : J (p - 1) = J p := by
        rcases kz_lx_tri (J (p - 1)) (J p) with z | z | z
        · exact absurd z g
        · exact z
        · exact absurd z g2
      rw [g3] at hl
      exact hl
theorem kz_fin {J : Nat → List Int32} {e sm la : Nat} (hI : kz_iv J e e sm la) : sm = e := by
  rcases hI with ⟨h, h', _⟩ | ⟨h0, hl, _⟩
  · omega
  · have g1 := kz_up_lt (show e - 1 < e by omega) hl
    have g2 := hl.1
    omega
/-- a key put at the upper bound: the places stay sorted -/
theorem kz_so_add {J J' : Nat → List Int32} {e u : Nat} {P : List Int32} (hs : kz_so J e) (hu : kz_up J e P u) (h1 : ∀ j, j < u → J' j = J j) (h2 : J' u = P) (h3 : ∀ j, u < j → j ≤ e → J' j = J (j - 1)) : kz_so J' (e + 1) := by
  intro i j hij hj
  have hue := hu.1
  rcases Nat.lt_trichotomy j u with g | g | g
  · rw [h1 j g, h1 i (by omega)]
    exact hs i j hij (by omega)
  · subst g
    rw [h2]
    rcases Nat.lt_or_ge i j with z | z
    · rw [h1 i z]
      exact hu.2.1 i z
    · rw [show i = j by omega, h2]
      exact kz_lx_irr _
  · rw [h3 j g (by omega)]
    rcases Nat.lt_trichotomy i u with z | z | z
    · rw [h1 i z]
      exact hs i (j - 1) (by omega) (by omega)
    · subst z
      rw [h2]
      have q := hu.2.2 (j - 1) (by omega) (by omega)
      exact fun w => kz_lx_irr _ (kz_lx_tr _ _ _ q w)
    · rw [h3 i z (by omega)]
      exact hs (i - 1) (j - 1) (by omega) (by omega)

/-! ===== what a tag says ===== -/
def kz_nl (t : Int32) (f : Nat) : Bool := decide (((t >>> ((5 * nI f) &&& 31)) &&& 7) = 7)
def kz_nu (t : Int32) (f : Nat) : Int32 := if (t &&& 1048576) = 0 then (((t >>> ((5 * nI f) &&& 31)) &&& 31) - 8) * 200000000 else ((t >>> ((5 * nI f) &&& 31)) &&& 31) - 8
def kz_sz (t : Int32) (f : Nat) : Nat := ((t >>> ((5 * nI f) &&& 31)) &&& 3).toNatClampNeg
def kz_l3 (t : Int32) (f i : Nat) : Int32 := (t >>> ((((5 * nI f) + 2) + nI i) &&& 31)) &&& 3
def kz_le (t : Int32) (f i : Nat) : Int32 := if kz_l3 t f i = 0 then 0 else if kz_l3 t f i = 1 then 255 else kz_l3 t f i
def kz_tl (t : Int32) (f : Nat) : List Int32 := (List.range (kz_sz t f)).map (kz_le t f)
def kz_val (s t : Int32) (f : Nat) : Option (Sum Int32 (List Int32)) := if kz_nl t f then none else if kz_tx s f then some (.inr (kz_tl t f)) else some (.inl (kz_nu t f))
theorem kz_sz_e (t : Int32) (f : Nat) : (t >>> ((5 * nI f) &&& 31)) &&& 3 = nI (kz_sz t f) ∧ kz_sz t f ≤ 3 := by
  obtain ⟨j, hj, e⟩ := pk_andE (t >>> ((5 * nI f) &&& 31)) (m := 3) 2 rfl
  have hj' : j < 4 := hj
  unfold kz_sz
  rw [e, nI_clamp (by omega)]
  exact ⟨rfl, by omega⟩
theorem kz_le_by (t : Int32) (f i : Nat) : kz_by (kz_le t f i) := by
  unfold kz_le
  split
  · exact kz_by0
  · split
    · exact kz_by255
    · obtain ⟨j, hj, e⟩ := pk_andE (t >>> ((((5 * nI f) + 2) + nI i) &&& 31)) (m := 3) 2 rfl
      have hj' : j < 4 := hj
      exact ⟨j, by omega, e⟩
theorem kz_tl_len (t : Int32) (f : Nat) : (kz_tl t f).length = kz_sz t f := by
  unfold kz_tl
  rw [List.length_map, List.length_range]
theorem kz_tl_get {t : Int32} {f i : Nat} (h : i < kz_sz t f) : (kz_tl t f)[i]? = some (kz_le t f i) := by
  unfold kz_tl
  rw [List.getElem?_map, List.getElem?_range h]
  rfl
theorem kz_tl_by (t : Int32) (f : Nat) : ∀ c, c ∈ kz_tl t f → kz_by c := by
  intro c hc
  unfold kz_tl at hc
  rw [List.mem_map] at hc
  obtain ⟨i, _, e⟩ := hc
  rw [← e]
  exact kz_le_by t f i
theorem kz_val_n {s t : Int32} {f : Nat} (h : kz_nl t f = true) : kz_val s t f = none := by
  unfold kz_val
  rw [if_pos h]
theorem kz_val_t {s t : Int32} {f : Nat} (h : kz_nl t f = false) (h2 : kz_tx s f = true) : kz_val s t f = some (.inr (kz_tl t f)) := by
  unfold kz_val
  rw [h, h2]
  rfl
theorem kz_val_i {s t : Int32} {f : Nat} (h : kz_nl t f = false) (h2 : kz_tx s f = false) : kz_val s t f = some (.inl (kz_nu t f)) := by
  unfold kz_val
  rw [h, h2]
  rfl
theorem kz_val_wt (s t : Int32) (f : Nat) : kz_wt s f (kz_val s t f) := by
  cases h : kz_nl t f
  · cases h2 : kz_tx s f
    · rw [kz_val_i h h2]
      exact h2
    · rw [kz_val_t h h2]
      exact ⟨h2, by rw [kz_tl_len]; exact (kz_sz_e t f).2, kz_tl_by t f⟩
  · rw [kz_val_n h]
    exact trivial
/-- the key of a tag under a schema of n fields -/
def kz_K (s : Int32) (n : Nat) (t : Int32) : List Int32 := kz_rs s (kz_val s t) 0 n
theorem kz_K_len {s : Int32} {n : Nat} (t : Int32) (hn : n ≤ 4) : (kz_K s n t).length ≤ 36 := by
  have h := kz_rs_len (kz_val_wt s t) n 0
  unfold kz_K
  omega
theorem kz_K_by {s : Int32} {n : Nat} (t : Int32) : ∀ b, b ∈ kz_K s n t → kz_by b := kz_rs_by (kz_val_wt s t) n 0
theorem kz_K_pf {s : Int32} {n : Nat} {t t' : Int32} {X : List Int32} (h : kz_K s n t = kz_K s n t' ++ X) : X = [] := by
  have h2 : kz_K s n t ++ [] = kz_K s n t' ++ X := by rw [List.append_nil, h]
  exact (kz_rs_pf (kz_val_wt s t) (kz_val_wt s t') n 0 [] X h2).2.symm
end
section
/-! ===== reading a key: the place q holds the list K; what is behind readAt is K.drop r ===== -/
def kz_rd (K : List Int32) (q : Nat) (a9 : Nat → Int32) : Prop := q < 20 ∧ K.length ≤ 64 ∧ ∀ i, i < K.length → K[i]? = some (a9 (64 * q + i))
theorem kz_rd_get {K R : List Int32} {q r : Nat} {b : Int32} {a9 : Nat → Int32} (h : kz_rd K q a9) (hd : K.drop r = b :: R) : r < 64 ∧ a9 (64 * q + r) = b ∧ K.drop (r + 1) = R := by
  have hr : r < K.length := by
    rcases Nat.lt_or_ge r K.length with g | g
    · exact g
    · rw [List.drop_eq_nil_of_le g] at hd
      exact absurd hd (List.cons_ne_nil b R).symm
  have h1 : (K.drop r)[0]? = some b := by rw [hd]; rfl
  rw [List.getElem?_drop, Nat.add_zero, h.2.2 r hr] at h1
  refine ⟨Nat.lt_of_lt_of_le hr h.2.1, Option.some.inj h1, ?_⟩
  rw [← List.tail_drop, hd]
  rfl
theorem kz_ix (q r : Nat) : (nI q * 64) + nI r = nI (64 * q + r) := by
  show nI q * nI 64 + nI r = _
  rw [pk_mul, nI_add, Nat.mul_comm]
theorem kz_ix6 (q r : Nat) : (nI q * 6) + nI r = nI (6 * q + r) := by
  show nI q * nI 6 + nI r = _
  rw [pk_mul, nI_add, Nat.mul_comm]
theorem kz_T_p {s : Int32} {f : Nat} (b : Int32) (h : kz_ds s f = true) : kz_T s f b = 255 - b := by
  unfold kz_T
  rw [if_pos h]
theorem kz_T_m {s : Int32} {f : Nat} (b : Int32) (h : kz_ds s f = false) : kz_T s f b = b := by
  unfold kz_T
  rw [h]
  rfl
section
variable {fi sc en pl ra : Int32} {a1 a2 a3 a4 a5 a6 a7 a8 a9 a10 : Nat → Int32}
theorem kz_it {post : Int32 → Prop} {f : Nat} (h1 : kz_tx sc f = true → post 1) (h0 : kz_tx sc f = false → post 0) : wpX_isText post (fi, sc, en, pl, ra, a1, a2, a3, a4, a5, a6, a7, a8, a9, a10) (nI f) :=
  ⟨fun z => h1 (decide_eq_true z), fun z => h0 (decide_eq_false z)⟩
theorem kz_de {post : Int32 → Prop} {f : Nat} (h1 : kz_ds sc f = true → post 1) (h0 : kz_ds sc f = false → post 0) : wpX_descending post (fi, sc, en, pl, ra, a1, a2, a3, a4, a5, a6, a7, a8, a9, a10) (nI f) :=
  ⟨fun z => h1 (decide_eq_true z), fun z => h0 (decide_eq_false z)⟩
theorem kz_nfi {post : Int32 → Prop} {f : Nat} (h1 : kz_nf sc f = true → post 1) (h0 : kz_nf sc f = false → post 0) : wpX_nullsFirst post (fi, sc, en, pl, ra, a1, a2, a3, a4, a5, a6, a7, a8, a9, a10) (nI f) :=
  ⟨fun z => h1 (decide_eq_true z), fun z => h0 (decide_eq_false z)⟩
theorem kz_ne {post : Int32 → Prop} {p e : Nat} (hp : p < e) (he : e ≤ 20) (h : post 0) : wpX_noEntry post (fi, sc, nI e, pl, ra, a1, a2, a3, a4, a5, a6, a7, a8, a9, a10) (nI p) :=
  br_f (nI_pos (by omega)) (br_t (nI_lt hp (by omega)) h)
theorem kz_bf {post : Int32 → Prop} {f n : Nat} (hf : f < n) (hn : n ≤ 4) (h : post 0) : wpX_badField post (nI n, sc, en, pl, ra, a1, a2, a3, a4, a5, a6, a7, a8, a9, a10) (nI f) :=
  br_f (nI_pos (by omega)) (br_t (nI_lt hf (by omega)) h)
theorem kz_nb {post : Int32 → St2 → Prop} {K R : List Int32} {q r : Nat} {b : Int32} (h : kz_rd K q a9) (hd : K.drop r = b :: R) (hp : post b (fi, sc, en, pl, nI (r + 1), a1, a2, a3, a4, a5, a6, a7, a8, a9, a10)) : wpX_nextByte post (fi, sc, en, pl, nI r, a1, a2, a3, a4, a5, a6, a7, a8, a9, a10) (nI q) := by
  obtain ⟨hr, hb, _⟩ := kz_rd_get h hd
  have hq := h.1
  have e : a9 ((nI q * 64) + nI r).toNatClampNeg = b := by rw [kz_ix, nI_clamp (by omega), hb]
  refine pk_le 64 r (fun z => absurd z (by omega)) (fun _ => ⟨pk_in (64 * q + r) 1280 (by omega) (kz_ix q r), ?_⟩)
  rw [e]
  exact nm_r (nI_1 r) hp
theorem kz_nt {post : Int32 → St2 → Prop} {K R : List Int32} {q r f : Nat} {c : Int32} (h : kz_rd K q a9) (hd : K.drop r = kz_T sc f c :: R) (hp : post c (fi, sc, en, pl, nI (r + 1), a1, a2, a3, a4, a5, a6, a7, a8, a9, a10)) : wpX_nextTurned post (fi, sc, en, pl, nI r, a1, a2, a3, a4, a5, a6, a7, a8, a9, a10) (nI q) (nI f) := by
  unfold wpX_nextTurned
  refine kz_nb h hd ?_
  refine kz_de (fun z => ?_) (fun z => ?_)
  · refine br_f (by decide) ?_
    rw [← kz_T_p _ z, kz_TT]
    exact hp
  · refine br_t rfl ?_
    rw [kz_T_m _ z]
    exact hp
theorem kz_nb_2 {post : Int32 → St2 → Prop} {K R : List Int32} {q r : Nat} {b : Int32} (h : kz_rd K q a9) (hd : K.drop r = b :: R) (hp : post b (fi, sc, en, pl, nI (r + 1), a1, a2, a3, a4, a5, a6, a7, a8, a9, a10)) : wpX_nextByte_2 post (fi, sc, en, pl, nI r, a1, a2, a3, a4, a5, a6, a7, a8, a9, a10) (nI q) := by
  obtain ⟨hr, hb, _⟩ := kz_rd_get h hd
  have hq := h.1
  have e : a9 ((nI q * 64) + nI r).toNatClampNeg = b := by rw [kz_ix, nI_clamp (by omega), hb]
  refine pk_le 64 r (fun z => absurd z (by omega)) (fun _ => ⟨pk_in (64 * q + r) 1280 (by omega) (kz_ix q r), ?_⟩)
  rw [e]
  exact nm_r (nI_1 r) hp
theorem kz_nt_2 {post : Int32 → St2 → Prop} {K R : List Int32} {q r f : Nat} {c : Int32} (h : kz_rd K q a9) (hd : K.drop r = kz_T sc f c :: R) (hp : post c (fi, sc, en, pl, nI (r + 1), a1, a2, a3, a4, a5, a6, a7, a8, a9, a10)) : wpX_nextTurned_2 post (fi, sc, en, pl, nI r, a1, a2, a3, a4, a5, a6, a7, a8, a9, a10) (nI q) (nI f) := by
  unfold wpX_nextTurned_2
  refine kz_nb_2 h hd ?_
  refine kz_de (fun z => ?_) (fun z => ?_)
  · refine br_f (by decide) ?_
    rw [← kz_T_p _ z, kz_TT]
    exact hp
  · refine br_t rfl ?_
    rw [kz_T_m _ z]
    exact hp
theorem kz_nb_3 {post : Int32 → St2 → Prop} {K R : List Int32} {q r : Nat} {b : Int32} (h : kz_rd K q a9) (hd : K.drop r = b :: R) (hp : post b (fi, sc, en, pl, nI (r + 1), a1, a2, a3, a4, a5, a6, a7, a8, a9, a10)) : wpX_nextByte_3 post (fi, sc, en, pl, nI r, a1, a2, a3, a4, a5, a6, a7, a8, a9, a10) (nI q) := by
  obtain ⟨hr, hb, _⟩ := kz_rd_get h hd
  have hq := h.1
  have e : a9 ((nI q * 64) + nI r).toNatClampNeg = b := by rw [kz_ix, nI_clamp (by omega), hb]
  refine pk_le 64 r (fun z => absurd z (by omega)) (fun _ => ⟨pk_in (64 * q + r) 1280 (by omega) (kz_ix q r), ?_⟩)
  rw [e]
  exact nm_r (nI_1 r) hp
theorem kz_nt_3 {post : Int32 → St2 → Prop} {K R : List Int32} {q r f : Nat} {c : Int32} (h : kz_rd K q a9) (hd : K.drop r = kz_T sc f c :: R) (hp : post c (fi, sc, en, pl, nI (r + 1), a1, a2, a3, a4, a5, a6, a7, a8, a9, a10)) : wpX_nextTurned_3 post (fi, sc, en, pl, nI r, a1, a2, a3, a4, a5, a6, a7, a8, a9, a10) (nI q) (nI f) := by
  unfold wpX_nextTurned_3
  refine kz_nb_3 h hd ?_
  refine kz_de (fun z => ?_) (fun z => ?_)
  · refine br_f (by decide) ?_
    rw [← kz_T_p _ z, kz_TT]
    exact hp
  · refine br_t rfl ?_
    rw [kz_T_m _ z]
    exact hp
theorem kz_rc1 {post : Int32 → St2 → Prop} {K R l : List Int32} {q r f : Nat} {c : Int32} (h : kz_rd K q a9) (hd : K.drop r = kz_eT sc f (c :: l) ++ R) (hp : ∀ r', K.drop r' = kz_eT sc f l ++ R → post c (fi, sc, en, pl, nI r', a1, a2, a3, a4, a5, a6, a7, a8, a9, a10)) : wpX_readChar post (fi, sc, en, pl, nI r, a1, a2, a3, a4, a5, a6, a7, a8, a9, a10) (nI q) (nI f) := by
  unfold wpX_readChar
  by_cases e : c = 0
  · subst e
    rw [kz_eT_z] at hd
    have h1 := kz_rd_get h hd
    have h2 := kz_rd_get h h1.2.2
    refine kz_nt (c := 0) h hd ?_
    refine br_t rfl ?_
    refine kz_nt (c := 255) h h1.2.2 ?_
    exact br_f (by decide) (hp _ h2.2.2)
  · rw [kz_eT_n e] at hd
    have h1 := kz_rd_get h hd
    refine kz_nt (c := c) h hd ?_
    exact br_f e (hp _ h1.2.2)
theorem kz_rc0 {post : Int32 → St2 → Prop} {K R : List Int32} {q r f : Nat} (h : kz_rd K q a9) (hd : K.drop r = kz_eT sc f [] ++ R) (hp : ∀ r', K.drop r' = R → post (-1) (fi, sc, en, pl, nI r', a1, a2, a3, a4, a5, a6, a7, a8, a9, a10)) : wpX_readChar post (fi, sc, en, pl, nI r, a1, a2, a3, a4, a5, a6, a7, a8, a9, a10) (nI q) (nI f) := by
  unfold wpX_readChar
  have h1 := kz_rd_get h hd
  have h2 := kz_rd_get h h1.2.2
  refine kz_nt (c := 0) h hd ?_
  refine br_t rfl ?_
  refine kz_nt (c := 1) h h1.2.2 ?_
  exact br_t rfl (hp _ h2.2.2)
theorem kz_sk24 {post : St2 → Prop} {K R : List Int32} {q f : Nat} (h : kz_rd K q a9) (hp : ∀ r', K.drop r' = R → post (fi, sc, en, pl, nI r', a1, a2, a3, a4, a5, a6, a7, a8, a9, a10)) : ∀ (l : List Int32) (i r n : Nat) (c : Int32), (∀ d, d ∈ l → kz_by d) → i + l.length ≤ 6 → ¬ c < 0 → l.length + 2 ≤ n → K.drop r = kz_eT sc f l ++ R → wX_skipValue_24 post (nI q) (nI f) n c (nI i) fi sc en pl (nI r) a1 a2 a3 a4 a5 a6 a7 a8 a9 a10 := by
  intro l
  induction l with
  | nil =>
    intro i r n c hl hi hc hn hd
    simp only [List.length_nil] at hi hn
    obtain ⟨n, rfl⟩ : ∃ m, n = m + 1 + 1 := ⟨n - 2, by omega⟩
    refine pk_le 8 i (fun z => absurd z (by omega)) (fun _ => br_f hc ?_)
    refine kz_rc0 h hd (fun r' hr => ?_)
    refine nm_r (nI_1 i) ?_
    exact pk_le 8 (i + 1) (fun _ => hp r' hr) (fun _ => br_t (by decide) (hp r' hr))
  | cons d l ih =>
    intro i r n c hl hi hc hn hd
    simp only [List.length_cons] at hi hn
    obtain ⟨n, rfl⟩ : ∃ m, n = m + 1 := ⟨n - 1, by omega⟩
    refine pk_le 8 i (fun z => absurd z (by omega)) (fun _ => br_f hc ?_)
    refine kz_rc1 h hd (fun r' hr => ?_)
    refine nm_r (nI_1 i) ?_
    exact ih (i + 1) r' n d (fun x hx => hl x (List.mem_cons_of_mem d hx)) (by omega) (kz_by_nn (hl d List.mem_cons_self)) (by omega) hr
theorem kz_sv {post : St2 → Prop} {K R : List Int32} {q r f : Nat} {v : Sum Int32 (List Int32)} (h : kz_rd K q a9) (hw : kz_wt sc f (some v)) (hd : K.drop r = kz_bd sc f (some v) ++ R) (hp : ∀ r', K.drop r' = R → post (fi, sc, en, pl, nI r', a1, a2, a3, a4, a5, a6, a7, a8, a9, a10)) : wpX_skipValue post (fi, sc, en, pl, nI r, a1, a2, a3, a4, a5, a6, a7, a8, a9, a10) (nI q) (nI f) := by
  unfold wpX_skipValue
  rcases v with x | l
  · refine kz_it (fun z => ?_) (fun z => ?_)
    · have hw' : kz_tx sc f = false := hw
      rw [z] at hw'
      exact absurd hw' (by decide)
    · refine br_t rfl (nm_r (show nI r + nI 4 = nI (r + 4) from nI_add r 4) (hp (r + 4) ?_))
      exact (kz_rd_get h (kz_rd_get h (kz_rd_get h (kz_rd_get h hd).2.2).2.2).2.2).2.2
  · refine kz_it (fun z => ?_) (fun z => ?_)
    · have h2 := hw.2.1
      exact br_f (by decide) ⟨l.length + 2, kz_sk24 h hp l 0 r (l.length + 2) 0 hw.2.2 (by omega) (by decide) (by omega) hd⟩
    · have hw' : kz_tx sc f = true := hw.1
      rw [z] at hw'
      exact absurd hw' (by decide)
theorem kz_sk7 {post : Int32 → St2 → Prop} {K : List Int32} {q : Nat} {V : Nat → Option (Sum Int32 (List Int32))} (h : kz_rd K q a9) (hw : ∀ f, kz_wt sc f (V f)) {fx : Nat} (hfx : fx < 4) (hp : ∀ r' R, K.drop r' = kz_bd sc fx (V fx) ++ R → post (if (V fx).isNone then 1 else 0) (fi, sc, en, pl, nI r', a1, a2, a3, a4, a5, a6, a7, a8, a9, a10)) : ∀ (d i r m n : Nat), i + d = fx → d < m → d < n → K.drop r = kz_rs sc V i m → wX_seek_7 post (nI q) (nI fx) n (nI i) fi sc en pl (nI r) a1 a2 a3 a4 a5 a6 a7 a8 a9 a10 := by
  intro d
  induction d with
  | zero =>
    intro i r m n hi hm hn hd
    obtain ⟨m, rfl⟩ : ∃ k, m = k + 1 := ⟨m - 1, by omega⟩
    obtain ⟨n, rfl⟩ : ∃ k, n = k + 1 := ⟨n - 1, by omega⟩
    have e : i = fx := by omega
    subst e
    have hd' : K.drop r = kz_hb sc i (V i) :: (kz_bd sc i (V i) ++ kz_rs sc V (i + 1) m) := hd
    have h1 := kz_rd_get h hd'
    have hp' := hp (r + 1) _ h1.2.2
    refine pk_le i i (fun _ => ?_) (fun z => absurd z (by omega))
    refine kz_nb h hd' ?_
    cases hV : V i with
    | none =>
      rw [hV] at hp'
      exact br_f (kz_hb_none sc i) hp'
    | some x =>
      rw [hV] at hp'
      exact br_t rfl hp'
  | succ d ih =>
    intro i r m n hi hm hn hd
    obtain ⟨m, rfl⟩ : ∃ k, m = k + 1 := ⟨m - 1, by omega⟩
    obtain ⟨n, rfl⟩ : ∃ k, n = k + 1 := ⟨n - 1, by omega⟩
    have hd' : K.drop r = kz_hb sc i (V i) :: (kz_bd sc i (V i) ++ kz_rs sc V (i + 1) m) := hd
    have h1 := (kz_rd_get h hd').2.2
    have hwi := hw i
    refine pk_le fx i (fun z => absurd z (by omega)) (fun _ => ?_)
    refine kz_nb h hd' ?_
    cases hV : V i with
    | none =>
      rw [hV] at h1
      exact br_f (kz_hb_none sc i) (nm_r (nI_1 i) (ih (i + 1) (r + 1) m n (by omega) (by omega) (by omega) h1))
    | some x =>
      rw [hV] at h1 hwi
      refine br_t rfl ?_
      refine kz_sv h hwi h1 (fun r' hr => ?_)
      exact nm_r (nI_1 i) (ih (i + 1) r' m n (by omega) (by omega) (by omega) hr)
theorem kz_seek {post : Int32 → St2 → Prop} {n q : Nat} {V : Nat → Option (Sum Int32 (List Int32))} (h : kz_rd (kz_rs sc V 0 n) q a9) (hw : ∀ f, kz_wt sc f (V f)) {fx : Nat} (hn : n ≤ 4) (hfx : fx < n) (hp : ∀ r' R, (kz_rs sc V 0 n).drop r' = kz_bd sc fx (V fx) ++ R → post (if (V fx).isNone then 1 else 0) (fi, sc, en, pl, nI r', a1, a2, a3, a4, a5, a6, a7, a8, a9, a10)) : wpX_seek post (fi, sc, en, pl, ra, a1, a2, a3, a4, a5, a6, a7, a8, a9, a10) (nI q) (nI fx) :=
  ⟨fx + 1, kz_sk7 h hw (by omega) hp fx 0 0 n (fx + 1) (by omega) (by omega) (by omega) (List.drop_zero)⟩
theorem kz_rc1_2 {post : Int32 → St2 → Prop} {K R l : List Int32} {q r f : Nat} {c : Int32} (h : kz_rd K q a9) (hd : K.drop r = kz_eT sc f (c :: l) ++ R) (hp : ∀ r', K.drop r' = kz_eT sc f l ++ R → post c (fi, sc, en, pl, nI r', a1, a2, a3, a4, a5, a6, a7, a8, a9, a10)) : wpX_readChar_2 post (fi, sc, en, pl, nI r, a1, a2, a3, a4, a5, a6, a7, a8, a9, a10) (nI q) (nI f) := by
  unfold wpX_readChar_2
  by_cases e : c = 0
  · subst e
    rw [kz_eT_z] at hd
    have h1 := kz_rd_get h hd
    have h2 := kz_rd_get h h1.2.2
    refine kz_nt_2 (c := 0) h hd ?_
    refine br_t rfl ?_
    refine kz_nt_2 (c := 255) h h1.2.2 ?_
    exact br_f (by decide) (hp _ h2.2.2)
  · rw [kz_eT_n e] at hd
    have h1 := kz_rd_get h hd
    refine kz_nt_2 (c := c) h hd ?_
    exact br_f e (hp _ h1.2.2)
theorem kz_rc0_2 {post : Int32 → St2 → Prop} {K R : List Int32} {q r f : Nat} (h : kz_rd K q a9) (hd : K.drop r = kz_eT sc f [] ++ R) (hp : ∀ r', K.drop r' = R → post (-1) (fi, sc, en, pl, nI r', a1, a2, a3, a4, a5, a6, a7, a8, a9, a10)) : wpX_readChar_2 post (fi, sc, en, pl, nI r, a1, a2, a3, a4, a5, a6, a7, a8, a9, a10) (nI q) (nI f) := by
  unfold wpX_readChar_2
  have h1 := kz_rd_get h hd
  have h2 := kz_rd_get h h1.2.2
  refine kz_nt_2 (c := 0) h hd ?_
  refine br_t rfl ?_
  refine kz_nt_2 (c := 1) h h1.2.2 ?_
  exact br_t rfl (hp _ h2.2.2)
theorem kz_sk24_2 {post : St2 → Prop} {K R : List Int32} {q f : Nat} (h : kz_rd K q a9) (hp : ∀ r', K.drop r' = R → post (fi, sc, en, pl, nI r', a1, a2, a3, a4, a5, a6, a7, a8, a9, a10)) : ∀ (l : List Int32) (i r n : Nat) (c : Int32), (∀ d, d ∈ l → kz_by d) → i + l.length ≤ 6 → ¬ c < 0 → l.length + 2 ≤ n → K.drop r = kz_eT sc f l ++ R → wX_skipValue_2_24 post (nI q) (nI f) n c (nI i) fi sc en pl (nI r) a1 a2 a3 a4 a5 a6 a7 a8 a9 a10 := by
  intro l
  induction l with
  | nil =>
    intro i r n c hl hi hc hn hd
    simp only [List.length_nil] at hi hn
    obtain ⟨n, rfl⟩ : ∃ m, n = m + 1 + 1 := ⟨n - 2, by omega⟩
    refine pk_le 8 i (fun z => absurd z (by omega)) (fun _ => br_f hc ?_)
    refine kz_rc0_2 h hd (fun r' hr => ?_)
    refine nm_r (nI_1 i) ?_
    exact pk_le 8 (i + 1) (fun _ => hp r' hr) (fun _ => br_t (by decide) (hp r' hr))
  | cons d l ih =>
    intro i r n c hl hi hc hn hd
    simp only [List.length_cons] at hi hn
    obtain ⟨n, rfl⟩ : ∃ m, n = m + 1 := ⟨n - 1, by omega⟩
    refine pk_le 8 i (fun z => absurd z (by omega)) (fun _ => br_f hc ?_)
    refine kz_rc1_2 h hd (fun r' hr => ?_)
    refine nm_r (nI_1 i) ?_
    exact ih (i + 1) r' n d (fun x hx => hl x (List.mem_cons_of_mem d hx)) (by omega) (kz_by_nn (hl d List.mem_cons_self)) (by omega) hr
theorem kz_sv_2 {post : St2 → Prop} {K R : List Int32} {q r f : Nat} {v : Sum Int32 (List Int32)} (h : kz_rd K q a9) (hw : kz_wt sc f (some v)) (hd : K.drop r = kz_bd sc f (some v) ++ R) (hp : ∀ r', K.drop r' = R → post (fi, sc, en, pl, nI r', a1, a2, a3, a4, a5, a6, a7, a8, a9, a10)) : wpX_skipValue_2 post (fi, sc, en, pl, nI r, a1, a2, a3, a4, a5, a6, a7, a8, a9, a10) (nI q) (nI f) := by
  unfold wpX_skipValue_2
  rcases v with x | l
  · refine kz_it (fun z => ?_) (fun z => ?_)
    · have hw' : kz_tx sc f = false := hw
      rw [z] at hw'
      exact absurd hw' (by decide)
    · refine br_t rfl (nm_r (show nI r + nI 4 = nI (r + 4) from nI_add r 4) (hp (r + 4) ?_))
      exact (kz_rd_get h (kz_rd_get h (kz_rd_get h (kz_rd_get h hd).2.2).2.2).2.2).2.2
  · refine kz_it (fun z => ?_) (fun z => ?_)
    · have h2 := hw.2.1
      exact br_f (by decide) ⟨l.length + 2, kz_sk24_2 h hp l 0 r (l.length + 2) 0 hw.2.2 (by omega) (by decide) (by omega) hd⟩
    · have hw' : kz_tx sc f = true := hw.1
      rw [z] at hw'
      exact absurd hw' (by decide)
theorem kz_sk7_2 {post : Int32 → St2 → Prop} {K : List Int32} {q : Nat} {V : Nat → Option (Sum Int32 (List Int32))} (h : kz_rd K q a9) (hw : ∀ f, kz_wt sc f (V f)) {fx : Nat} (hfx : fx < 4) (hp : ∀ r' R, K.drop r' = kz_bd sc fx (V fx) ++ R → post (if (V fx).isNone then 1 else 0) (fi, sc, en, pl, nI r', a1, a2, a3, a4, a5, a6, a7, a8, a9, a10)) : ∀ (d i r m n : Nat), i + d = fx → d < m → d < n → K.drop r = kz_rs sc V i m → wX_seek_2_7 post (nI q) (nI fx) n (nI i) fi sc en pl (nI r) a1 a2 a3 a4 a5 a6 a7 a8 a9 a10 := by
  intro d
  induction d with
  | zero =>
    intro i r m n hi hm hn hd
    obtain ⟨m, rfl⟩ : ∃ k, m = k + 1 := ⟨m - 1, by omega⟩
    obtain ⟨n, rfl⟩ : ∃ k, n = k + 1 := ⟨n - 1, by omega⟩
    have e : i = fx := by omega
    subst e
    have hd' : K.drop r = kz_hb sc i (V i) :: (kz_bd sc i (V i) ++ kz_rs sc V (i + 1) m) := hd
    have h1 := kz_rd_get h hd'
    have hp' := hp (r + 1) _ h1.2.2
    refine pk_le i i (fun _ => ?_) (fun z => absurd z (by omega))
    refine kz_nb_2 h hd' ?_
    cases hV : V i with
    | none =>
      rw [hV] at hp'
      exact br_f (kz_hb_none sc i) hp'
    | some x =>
      rw [hV] at hp'
      exact br_t rfl hp'
  | succ d ih =>
    intro i r m n hi hm hn hd
    obtain ⟨m, rfl⟩ : ∃ k, m = k + 1 := ⟨m - 1, by omega⟩
    obtain ⟨n, rfl⟩ : ∃ k, n = k + 1 := ⟨n - 1, by omega⟩
    have hd' : K.drop r = kz_hb sc i (V i) :: (kz_bd sc i (V i) ++ kz_rs sc V (i + 1) m) := hd
    have h1 := (kz_rd_get h hd').2.2
    have hwi := hw i
    refine pk_le fx i (fun z => absurd z (by omega)) (fun _ => ?_)
    refine kz_nb_2 h hd' ?_
    cases hV : V i with
    | none =>
      rw [hV] at h1
      exact br_f (kz_hb_none sc i) (nm_r (nI_1 i) (ih (i + 1) (r + 1) m n (by omega) (by omega) (by omega) h1))
    | some x =>
      rw [hV] at h1 hwi
      refine br_t rfl ?_
      refine kz_sv_2 h hwi h1 (fun r' hr => ?_)
      exact nm_r (nI_1 i) (ih (i + 1) r' m n (by omega) (by omega) (by omega) hr)
theorem kz_seek_2 {post : Int32 → St2 → Prop} {n q : Nat} {V : Nat → Option (Sum Int32 (List Int32))} (h : kz_rd (kz_rs sc V 0 n) q a9) (hw : ∀ f, kz_wt sc f (V f)) {fx : Nat} (hn : n ≤ 4) (hfx : fx < n) (hp : ∀ r' R, (kz_rs sc V 0 n).drop r' = kz_bd sc fx (V fx) ++ R → post (if (V fx).isNone then 1 else 0) (fi, sc, en, pl, nI r', a1, a2, a3, a4, a5, a6, a7, a8, a9, a10)) : wpX_seek_2 post (fi, sc, en, pl, ra, a1, a2, a3, a4, a5, a6, a7, a8, a9, a10) (nI q) (nI fx) :=
  ⟨fx + 1, kz_sk7_2 h hw (by omega) hp fx 0 0 n (fx + 1) (by omega) (by omega) (by omega) (List.drop_zero)⟩
theorem kz_ri {post : Int32 → St2 → Prop} {K R : List Int32} {q r f : Nat} {x : Int32} (h : kz_rd K q a9) (hd : K.drop r = kz_bd sc f (some (.inl x)) ++ R) (hp : ∀ r', post x (fi, sc, en, pl, nI r', a1, a2, a3, a4, a5, a6, a7, a8, a9, a10)) : wpX_readInt post (fi, sc, en, pl, nI r, a1, a2, a3, a4, a5, a6, a7, a8, a9, a10) (nI q) (nI f) := by
  have h1 := (kz_rd_get h hd).2.2
  have h2 := (kz_rd_get h h1).2.2
  have h3 := (kz_rd_get h h2).2.2
  refine ⟨5, ?_⟩
  refine pk_le 4 0 (fun z => absurd z (by omega)) (fun _ => ?_)
  refine kz_nt_3 h hd ?_
  refine nm_e (nm_r (nI_1 0) ?_)
  refine pk_le 4 1 (fun z => absurd z (by omega)) (fun _ => ?_)
  refine kz_nt_3 h h1 ?_
  refine nm_e (nm_r (nI_1 1) ?_)
  refine pk_le 4 2 (fun z => absurd z (by omega)) (fun _ => ?_)
  refine kz_nt_3 h h2 ?_
  refine nm_e (nm_r (nI_1 2) ?_)
  refine pk_le 4 3 (fun z => absurd z (by omega)) (fun _ => ?_)
  refine kz_nt_3 h h3 ?_
  refine nm_e (nm_r (nI_1 3) ?_)
  refine pk_le 4 4 (fun _ => ?_) (fun z => absurd z (by omega))
  rw [kz_back]
  exact hp _
theorem kz_ri_2 {post : Int32 → St2 → Prop} {K R : List Int32} {q r f : Nat} {x : Int32} (h : kz_rd K q a9) (hd : K.drop r = kz_bd sc f (some (.inl x)) ++ R) (hp : ∀ r', post x (fi, sc, en, pl, nI r', a1, a2, a3, a4, a5, a6, a7, a8, a9, a10)) : wpX_readInt_2 post (fi, sc, en, pl, nI r, a1, a2, a3, a4, a5, a6, a7, a8, a9, a10) (nI q) (nI f) := by
  have h1 := (kz_rd_get h hd).2.2
  have h2 := (kz_rd_get h h1).2.2
  have h3 := (kz_rd_get h h2).2.2
  refine ⟨5, ?_⟩
  refine pk_le 4 0 (fun z => absurd z (by omega)) (fun _ => ?_)
  refine kz_nt_2 h hd ?_
  refine nm_e (nm_r (nI_1 0) ?_)
  refine pk_le 4 1 (fun z => absurd z (by omega)) (fun _ => ?_)
  refine kz_nt_2 h h1 ?_
  refine nm_e (nm_r (nI_1 1) ?_)
  refine pk_le 4 2 (fun z => absurd z (by omega)) (fun _ => ?_)
  refine kz_nt_2 h h2 ?_
  refine nm_e (nm_r (nI_1 2) ?_)
  refine pk_le 4 3 (fun z => absurd z (by omega)) (fun _ => ?_)
  refine kz_nt_2 h h3 ?_
  refine nm_e (nm_r (nI_1 3) ?_)
  refine pk_le 4 4 (fun _ => ?_) (fun z => absurd z (by omega))
  rw [kz_back]
  exact hp _
end
end
section
/-! ===== nullAt, intAt, charAt ===== -/
def kz_int : Option (Sum Int32 (List Int32)) → Int32
  | some (.inl x) => x
  | _ => 0
def kz_ch (i : Nat) : Option (Sum Int32 (List Int32)) → Int32
  | some (.inr l) => l.getD i (-5)
  | _ => -5
section
variable {fi sc en pl ra : Int32} {a1 a2 a3 a4 a5 a6 a7 a8 a9 a10 : Nat → Int32}
theorem kz_nullAt {post : Int32 → St2 → Prop} {V : Nat → Option (Sum Int32 (List Int32))} {p e q f n : Nat} (hp : p < e) (he : e ≤ 20) (hf : f < n) (hn : n ≤ 4) (h5 : a5 p = nI q) (h : kz_rd (kz_rs sc V 0 n) q a9) (hw : ∀ f, kz_wt sc f (V f)) (H : ∀ ra' : Int32, post (if (V f).isNone then 1 else 0) (nI n, sc, nI e, pl, ra', a1, a2, a3, a4, a5, a6, a7, a8, a9, a10)) : wpX_nullAt post (nI n, sc, nI e, pl, ra, a1, a2, a3, a4, a5, a6, a7, a8, a9, a10) (nI p) (nI f) := by
  unfold wpX_nullAt
  refine kz_ne hp he (br_t rfl ?_)
  refine kz_bf hf hn (br_t rfl ⟨pk_in p 20 (by omega), ?_⟩)
  rw [nI_clamp (show p < 2 ^ 31 by omega), h5]
  refine kz_seek_2 h hw hn hf (fun r' R _ => ⟨?_, H (nI r')⟩)
  cases (V f).isNone <;> rfl
theorem kz_intAt {post : Int32 → St2 → Prop} {V : Nat → Option (Sum Int32 (List Int32))} {p e q f n : Nat} (hp : p < e) (he : e ≤ 20) (hf : f < n) (hn : n ≤ 4) (h5 : a5 p = nI q) (h : kz_rd (kz_rs sc V 0 n) q a9) (hw : ∀ f, kz_wt sc f (V f)) (H : ∀ ra' : Int32, post (kz_int (V f)) (nI n, sc, nI e, pl, ra', a1, a2, a3, a4, a5, a6, a7, a8, a9, a10)) : wpX_intAt post (nI n, sc, nI e, pl, ra, a1, a2, a3, a4, a5, a6, a7, a8, a9, a10) (nI p) (nI f) := by
  unfold wpX_intAt
  refine kz_ne hp he (br_t rfl ?_)
  refine kz_bf hf hn (br_t rfl ?_)
  have hwf := hw f
  refine kz_it (fun z => br_f (by decide) ?_) (fun z => br_t rfl ⟨pk_in p 20 (by omega), ?_⟩)
  · have e0 : kz_int (V f) = 0 := by
      cases hV : V f with
      | none => rfl
      | some v =>
        rw [hV] at hwf
        rcases v with x | l
        · have hw' : kz_tx sc f = false := hwf
          rw [z] at hw'
          exact absurd hw' (by decide)
        · rfl
    have H' := H ra
    rw [e0] at H'
    exact H'
  · rw [nI_clamp (show p < 2 ^ 31 by omega), h5]
    refine kz_seek_2 h hw hn hf (fun r' R hd => ?_)
    cases hV : V f with
    | none =>
      have H' := H (nI r')
      rw [hV] at H'
      exact br_f (by decide) H'
    | some v =>
      rw [hV] at hwf hd
      rcases v with x | l
      · refine br_t rfl ⟨pk_in p 20 (by omega), ?_⟩
        rw [h5]
        rw [hV] at H
        exact kz_ri_2 h hd (fun r2 => H (nI r2))
      · have hw' : kz_tx sc f = true := hwf.1
        rw [z] at hw'
        exact absurd hw' (by decide)
theorem kz_ca66 {post : Int32 → St2 → Prop} {K R : List Int32} {p q f i : Nat} (hp : p < 20) (hi : i ≤ 5) (h5 : a5 p = nI q) (h : kz_rd K q a9) : ∀ (l : List Int32) (k r n : Nat) (c : Int32), (∀ d, d ∈ l → kz_by d) → k ≤ i → ¬ c < 0 → i - k + 2 ≤ n → K.drop r = kz_eT sc f l ++ R → (∀ ra' : Int32, post (l.getD (i - k) (-5)) (fi, sc, en, pl, ra', a1, a2, a3, a4, a5, a6, a7, a8, a9, a10)) → wX_charAt_66 post (nI p) (nI f) (nI i) n c (nI k) fi sc en pl (nI r) a1 a2 a3 a4 a5 a6 a7 a8 a9 a10 := by
  intro l
  induction l with
  | nil =>
    intro k r n c hl hk hc hn hd H
    obtain ⟨n, rfl⟩ : ∃ m, n = m + 1 + 1 := ⟨n - 2, by omega⟩
    refine pk_lt i k (fun z => absurd z (by omega)) (fun _ => br_f hc ⟨pk_in p 20 hp, ?_⟩)
    rw [nI_clamp (show p < 2 ^ 31 by omega), h5]
    refine kz_rc0_2 h hd (fun r' hr => ?_)
    refine nm_r (nI_1 k) ?_
    have H' : post (-5) (fi, sc, en, pl, nI r', a1, a2, a3, a4, a5, a6, a7, a8, a9, a10) := H (nI r')
    exact pk_lt i (k + 1) (fun _ => br_f (by decide) H') (fun _ => br_t (by decide) (br_f (by decide) H'))
  | cons d l ih =>
    intro k r n c hl hk hc hn hd H
    obtain ⟨n, rfl⟩ : ∃ m, n = m + 1 + 1 := ⟨n - 2, by omega⟩
    have hdb := hl d List.mem_cons_self
    refine pk_lt i k (fun z => absurd z (by omega)) (fun _ => br_f hc ⟨pk_in p 20 hp, ?_⟩)
    rw [nI_clamp (show p < 2 ^ 31 by omega), h5]
    refine kz_rc1_2 h hd (fun r' hr => ?_)
    refine nm_r (nI_1 k) ?_
    by_cases e : k = i
    · subst e
      rw [Nat.sub_self] at H
      have H' : post d (fi, sc, en, pl, nI r', a1, a2, a3, a4, a5, a6, a7, a8, a9, a10) := H (nI r')
      have h0 : (0 : Int32) ≤ d := by
        obtain ⟨w, hw, rfl⟩ := hdb
        exact nI_pos' (by omega)
      exact pk_lt k (k + 1) (fun _ => br_t h0 H') (fun z => absurd z (by omega))
    · rw [show i - k = (i - (k + 1)) + 1 by omega] at H
      exact ih (k + 1) r' (n + 1) d (fun x hx => hl x (List.mem_cons_of_mem d hx)) (by omega) (kz_by_nn hdb) (by omega) hr H
theorem kz_charAt {post : Int32 → St2 → Prop} {V : Nat → Option (Sum Int32 (List Int32))} {p e q f n i : Nat} (hp : p < e) (he : e ≤ 20) (hf : f < n) (hn : n ≤ 4) (hi : i ≤ 5) (h5 : a5 p = nI q) (h : kz_rd (kz_rs sc V 0 n) q a9) (hw : ∀ f, kz_wt sc f (V f)) (H : ∀ ra' : Int32, post (kz_ch i (V f)) (nI n, sc, nI e, pl, ra', a1, a2, a3, a4, a5, a6, a7, a8, a9, a10)) : wpX_charAt post (nI n, sc, nI e, pl, ra, a1, a2, a3, a4, a5, a6, a7, a8, a9, a10) (nI p) (nI f) (nI i) := by
  unfold wpX_charAt
  refine kz_ne hp he (br_t rfl ?_)
  refine kz_bf hf hn (br_t rfl ?_)
  refine br_f (nI_pos (by omega)) (br_t (nI_le (b := 5) hi (by omega)) ?_)
  have hwf := hw f
  refine kz_it (fun z => br_f (by decide) ⟨pk_in p 20 (by omega), ?_⟩) (fun z => br_t rfl ?_)
  · rw [nI_clamp (show p < 2 ^ 31 by omega), h5]
    refine kz_seek_2 h hw hn hf (fun r' R hd => ?_)
    cases hV : V f with
    | none =>
      have H' := H (nI r')
      rw [hV] at H'
      exact br_f (by decide) H'
    | some v =>
      rw [hV] at hwf hd H
      rcases v with x | l
      · have hw' : kz_tx sc f = false := hwf
        rw [z] at hw'
        exact absurd hw' (by decide)
      · exact br_t rfl ⟨i + 2, kz_ca66 (by omega) hi h5 h l 0 r' (i + 2) 0 hwf.2.2 (by omega) (by decide) (by omega) hd H⟩
  · have e0 : kz_ch i (V f) = -5 := by
      cases hV : V f with
      | none => rfl
      | some v =>
        rw [hV] at hwf
        rcases v with x | l
        · rfl
        · have hw' : kz_tx sc f = true := hwf.1
          rw [z] at hw'
          exact absurd hw' (by decide)
    have H' := H ra
    rw [e0] at H'
    exact H'
end
end
section
/-! ===== making a key: the probe holds the list P ===== -/
def kz_pr (P : List Int32) (a10 : Nat → Int32) : Prop := ∀ i, i < P.length → P[i]? = some (a10 i)
theorem kz_pr_add {P : List Int32} {a10 : Nat → Int32} {b : Int32} (h : kz_pr P a10) : kz_pr (P ++ [b]) (upd a10 P.length b) := by
  intro i hi
  rw [List.length_append] at hi
  have hi' : i < P.length + 1 := hi
  by_cases e : i = P.length
  · subst e
    rw [pk_us, List.getElem?_concat_length]
  · rw [pk_un e, List.getElem?_append_left (by omega)]
    exact h i (by omega)
/-- the stage's field f holds v -/
def kz_s1 (f : Nat) (v : Option (Sum Int32 (List Int32))) (a1 a2 a3 a4 : Nat → Int32) : Prop :=
  match v with
  | none => ¬ a1 f = 0
  | some (.inl x) => a1 f = 0 ∧ a2 f = x
  | some (.inr l) => a1 f = 0 ∧ a3 f = nI l.length ∧ ∀ i, i < l.length → l[i]? = some (a4 (6 * f + i))
section
variable {fi sc en pl ra : Int32} {a1 a2 a3 a4 a5 a6 a7 a8 a9 a10 : Nat → Int32}
theorem kz_emit {post : St2 → Prop} {P : List Int32} {b : Int32} (h : kz_pr P a10) (hb : kz_by b) (hP : P.length < 64) (H : ∀ a', kz_pr (P ++ [b]) a' → post (fi, sc, en, nI (P ++ [b]).length, ra, a1, a2, a3, a4, a5, a6, a7, a8, a9, a')) : wpX_emit post (fi, sc, en, nI P.length, ra, a1, a2, a3, a4, a5, a6, a7, a8, a9, a10) b := by
  have H' := H _ (kz_pr_add (b := b) h)
  rw [List.length_append] at H'
  refine br_t (nI_lt (b := 64) hP (by omega)) ⟨pk_in P.length 64 hP, ?_⟩
  rw [nI_clamp (show P.length < 2 ^ 31 by omega), kz_by_sh hb]
  exact nm_e (nm_r (nI_1 P.length) H')
theorem kz_emT {post : St2 → Prop} {P : List Int32} {b : Int32} {f : Nat} (h : kz_pr P a10) (hb : kz_by b) (hP : P.length < 64) (H : ∀ a', kz_pr (P ++ [kz_T sc f b]) a' → post (fi, sc, en, nI (P ++ [kz_T sc f b]).length, ra, a1, a2, a3, a4, a5, a6, a7, a8, a9, a')) : wpX_emitTurned post (fi, sc, en, nI P.length, ra, a1, a2, a3, a4, a5, a6, a7, a8, a9, a10) b (nI f) := by
  have hT : kz_by (kz_T sc f b) := kz_Tby hb
  unfold wpX_emitTurned
  refine kz_de (fun z => br_f (by decide) ?_) (fun z => br_t rfl ?_)
  · rw [← kz_T_p b z]
    exact kz_emit h hT hP H
  · rw [kz_T_m b z] at H hT
    exact kz_emit h hT hP H
theorem kz_emI {post : St2 → Prop} {P : List Int32} {x : Int32} {f : Nat} (hf : f < 4) (h : kz_pr P a10) (hx : a2 f = x) (hP : P.length < 60) (H : ∀ a', kz_pr (P ++ kz_bd sc f (some (.inl x))) a' → post (fi, sc, en, nI (P ++ kz_bd sc f (some (.inl x))).length, ra, a1, a2, a3, a4, a5, a6, a7, a8, a9, a')) : wpX_emitInt post (fi, sc, en, nI P.length, ra, a1, a2, a3, a4, a5, a6, a7, a8, a9, a10) (nI f) := by
  refine ⟨pk_in f 4 hf, ?_⟩
  rw [nI_clamp (show f < 2 ^ 31 by omega), hx]
  refine nm_e ⟨5, ?_⟩
  refine br_f (by decide) ?_
  refine kz_emT (b := kz_ib x 24) h (kz_ub_by _ _) (by omega) (fun b1 g1 => ?_)
  refine nm_r (show (24 : Int32) + (-8) = nI 16 from by decide) ?_
  refine br_f (by decide) ?_
  refine kz_emT (b := kz_ib x 16) g1 (kz_ub_by _ _) (by simp only [List.length_append, List.length_cons, List.length_nil]; omega) (fun b2 g2 => ?_)
  refine nm_r (show (nI 16 : Int32) + (-8) = nI 8 from by decide) ?_
  refine br_f (by decide) ?_
  refine kz_emT (b := kz_ib x 8) g2 (kz_ub_by _ _) (by simp only [List.length_append, List.length_cons, List.length_nil]; omega) (fun b3 g3 => ?_)
  refine nm_r (show (nI 8 : Int32) + (-8) = nI 0 from by decide) ?_
  refine br_f (by decide) ?_
  refine kz_emT (b := kz_ib x 0) g3 (kz_ub_by _ _) (by simp only [List.length_append, List.length_cons, List.length_nil]; omega) (fun b4 g4 => ?_)
  refine nm_r (show (nI 0 : Int32) + (-8) = -8 from by decide) ?_
  refine br_t (by decide) ?_
  have e : P ++ [kz_T sc f (kz_ib x 24)] ++ [kz_T sc f (kz_ib x 16)] ++ [kz_T sc f (kz_ib x 8)] ++ [kz_T sc f (kz_ib x 0)] = P ++ kz_bd sc f (some (.inl x)) := by
    simp only [kz_bd, List.append_assoc, List.cons_append, List.nil_append]
  rw [e] at g4 ⊢
  exact H b4 g4
theorem kz_eT2 {post : St2 → Prop} {f : Nat} {L : List Int32} (hf : f < 4) (h3 : a3 f = nI L.length) (h4 : ∀ i, i < L.length → L[i]? = some (a4 (6 * f + i))) (hL : L.length ≤ 3) : ∀ (l : List Int32) (i n : Nat) (P : List Int32) (a10 : Nat → Int32), (∀ c, c ∈ l → kz_by c) → L.drop i = l → i + l.length = L.length → l.length < n → kz_pr P a10 → P.length + (kz_eT sc f l).length ≤ 64 → (∀ a', kz_pr (P ++ kz_eT sc f l) a' → post (fi, sc, en, nI (P ++ kz_eT sc f l).length, ra, a1, a2, a3, a4, a5, a6, a7, a8, a9, a')) → wX_emitText_2 post (nI f) n (nI i) fi sc en (nI P.length) ra a1 a2 a3 a4 a5 a6 a7 a8 a9 a10 := by
  intro l
  induction l with
  | nil =>
    intro i n P b0 hl hd hi hn h hP H
    obtain ⟨n, rfl⟩ : ∃ m, n = m + 1 := ⟨n - 1, by omega⟩
    have hP' : P.length + 2 ≤ 64 := hP
    have hi' : i = L.length := hi
    refine ⟨pk_in f 4 hf, ?_⟩
    rw [nI_clamp (show f < 2 ^ 31 by omega), h3]
    refine pk_le L.length i (fun _ => ?_) (fun z => absurd z (by omega))
    refine kz_emT (b := 0) h kz_by0 (by omega) (fun b1 g1 => ?_)
    refine kz_emT (b := 1) g1 kz_by1 (by simp only [List.length_append, List.length_cons, List.length_nil]; omega) (fun b2 g2 => ?_)
    have e : P ++ [kz_T sc f 0] ++ [kz_T sc f 1] = P ++ kz_eT sc f [] := by
      simp only [kz_eT, List.append_assoc, List.cons_append, List.nil_append]
    rw [e] at g2 ⊢
    exact H b2 g2
  | cons c l ih =>
    intro i n P b0 hl hd hi hn h hP H
    simp only [List.length_cons] at hi hn
    obtain ⟨n, rfl⟩ : ∃ m, n = m + 1 := ⟨n - 1, by omega⟩
    have hc := hl c List.mem_cons_self
    have hl' : ∀ d, d ∈ l → kz_by d := fun d hd => hl d (List.mem_cons_of_mem c hd)
    have hd' : L.drop (i + 1) = l := by rw [← List.tail_drop, hd]; rfl
    have hx : a4 (6 * f + i) = c := by
      have h1 : (L.drop i)[0]? = some c := by rw [hd]; rfl
      rw [List.getElem?_drop, Nat.add_zero, h4 i (by omega)] at h1
      exact Option.some.inj h1
    refine ⟨pk_in f 4 hf, ?_⟩
    rw [nI_clamp (show f < 2 ^ 31 by omega), h3]
    refine pk_le L.length i (fun z => absurd z (by omega)) (fun _ => ⟨pk_in (6 * f + i) 24 (by omega) (kz_ix6 f i), ?_⟩)
    rw [kz_ix6, nI_clamp (show 6 * f + i < 2 ^ 31 by omega), hx]
    refine nm_e ?_
    by_cases e : c = 0
    · subst e
      rw [kz_eT_z] at hP H
      simp only [List.length_cons] at hP
      refine kz_emT (b := 0) h kz_by0 (by omega) (fun b1 g1 => ?_)
      refine br_t rfl ?_
      refine kz_emT (b := 255) g1 kz_by255 (by simp only [List.length_append, List.length_cons, List.length_nil]; omega) (fun b2 g2 => ?_)
      refine nm_r (nI_1 i) ?_
      refine ih (i + 1) n _ b2 hl' hd' (by omega) (by omega) g2 (by simp only [List.length_append, List.length_cons, List.length_nil]; omega) ?_
      have e : P ++ [kz_T sc f 0] ++ [kz_T sc f 255] ++ kz_eT sc f l = P ++ kz_T sc f 0 :: kz_T sc f 255 :: kz_eT sc f l := by
        simp only [List.append_assoc, List.cons_append, List.nil_append]
      rw [e]
      exact H
    · rw [kz_eT_n e] at hP H
      simp only [List.length_cons] at hP
      refine kz_emT (b := c) h hc (by omega) (fun b1 g1 => ?_)
      refine br_f e ?_
      refine nm_r (nI_1 i) ?_
      refine ih (i + 1) n _ b1 hl' hd' (by omega) (by omega) g1 (by simp only [List.length_append, List.length_cons, List.length_nil]; omega) ?_
      have e : P ++ [kz_T sc f c] ++ kz_eT sc f l = P ++ kz_T sc f c :: kz_eT sc f l := by
        simp only [List.append_assoc, List.cons_append, List.nil_append]
      rw [e]
      exact H
theorem kz_en7 {post : St2 → Prop} {V : Nat → Option (Sum Int32 (List Int32))} {N : Nat} (hw : ∀ f, kz_wt sc f (V f)) (hN : N ≤ 4) (hs : ∀ f, f < N → kz_s1 f (V f) a1 a2 a3 a4) (H : ∀ a', kz_pr (kz_rs sc V 0 N) a' → post (fi, sc, en, nI (kz_rs sc V 0 N).length, ra, a1, a2, a3, a4, a5, a6, a7, a8, a9, a')) : ∀ (m i n : Nat) (P : List Int32) (a10 : Nat → Int32), i + m = N → m < n → kz_pr P a10 → P ++ kz_rs sc V i m = kz_rs sc V 0 N → wX_encode_7 post (nI N) n (nI i) fi sc en (nI P.length) ra a1 a2 a3 a4 a5 a6 a7 a8 a9 a10 := by
  have hK := kz_rs_len hw N 0
  intro m
  induction m with
  | zero =>
    intro i n P b0 hi hn h hP
    obtain ⟨n, rfl⟩ : ∃ k, n = k + 1 := ⟨n - 1, by omega⟩
    have hP' : P = kz_rs sc V 0 N := by rw [← hP]; exact (List.append_nil P).symm
    subst hP'
    exact pk_le N i (fun _ => H b0 h) (fun z => absurd z (by omega))
  | succ m ih =>
    intro i n P b0 hi hn h hP
    obtain ⟨n, rfl⟩ : ∃ k, n = k + 1 := ⟨n - 1, by omega⟩
    have hP' : P ++ kz_hb sc i (V i) :: (kz_bd sc i (V i) ++ kz_rs sc V (i + 1) m) = kz_rs sc V 0 N := hP
    have hl : P.length + ((kz_bd sc i (V i)).length + (kz_rs sc V (i + 1) m).length + 1) = (kz_rs sc V 0 N).length := by
      rw [← hP']
      simp only [List.length_append, List.length_cons]
    have hsi := hs i (by omega)
    have hwi := hw i
    refine pk_le N i (fun z => absurd z (by omega)) (fun _ => ?_)
    cases hV : V i with
    | none =>
      rw [hV] at hsi hP'
      have hs1 : ¬ a1 i = 0 := hsi
      have step : ∀ (r : Int32), r = kz_hb sc i none → wX_encode_44 post (wX_encode_7 post (nI N) n) (nI N) (nI i) r fi sc en (nI P.length) ra a1 a2 a3 a4 a5 a6 a7 a8 a9 b0 := by
        intro r hr
        subst hr
        unfold wX_encode_44
        refine kz_emit h (kz_hb_by sc i none) (by omega) (fun b1 g1 => ?_)
        refine nm_r (nI_1 i) ?_
        refine ih (i + 1) n _ b1 (by omega) (by omega) g1 ?_
        rw [← hP', List.append_assoc]
        rfl
      refine kz_nfi (fun z => ?_) (fun z => ?_)
      · have e0 : (0 : Int32) = kz_hb sc i none := by
          show (0 : Int32) = (if kz_nf sc i then 0 else 2)
          rw [z]
          rfl
        refine kz_it (fun z2 => ⟨pk_in i 4 (by omega), ?_⟩) (fun z2 => ⟨pk_in i 4 (by omega), ?_⟩) <;> rw [nI_clamp (show i < 2 ^ 31 by omega)] <;> exact br_f hs1 (br_f (by decide) (step 0 e0))
      · have e0 : (2 : Int32) = kz_hb sc i none := by
          show (2 : Int32) = (if kz_nf sc i then 0 else 2)
          rw [z]
          rfl
        refine kz_it (fun z2 => ⟨pk_in i 4 (by omega), ?_⟩) (fun z2 => ⟨pk_in i 4 (by omega), ?_⟩) <;> rw [nI_clamp (show i < 2 ^ 31 by omega)] <;> exact br_f hs1 (br_t rfl (step 2 e0))
    | some v =>
      rw [hV] at hsi hP' hwi hl
      rcases v with x | l
      · have hs1 : a1 i = 0 ∧ a2 i = x := hsi
        have ht : kz_tx sc i = false := hwi
        have hl' : P.length + (4 + (kz_rs sc V (i + 1) m).length + 1) = (kz_rs sc V 0 N).length := hl
        refine kz_nfi (fun z => ?_) (fun z => ?_) <;> refine kz_it (fun z2 => absurd (ht.symm.trans z2) (by decide)) (fun z2 => ⟨pk_in i 4 (by omega), ?_⟩) <;> rw [nI_clamp (show i < 2 ^ 31 by omega)] <;> refine br_t hs1.1 ?_ <;> refine kz_emit (b := 1) h kz_by1 (by omega) (fun b1 g1 => ?_) <;> refine br_t rfl ?_ <;> refine kz_emI (by omega) g1 hs1.2 (by simp only [List.length_append, List.length_cons, List.length_nil]; omega) (fun b2 g2 => ?_) <;> refine nm_r (nI_1 i) ?_ <;> refine ih (i + 1) n _ b2 (by omega) (by omega) g2 ?_ <;> rw [← hP', List.append_assoc, List.append_assoc] <;> rfl
      · have hs1 : a1 i = 0 ∧ a3 i = nI l.length ∧ ∀ j, j < l.length → l[j]? = some (a4 (6 * i + j)) := hsi
        have ht : kz_tx sc i = true := hwi.1
        have hl' : P.length + ((kz_eT sc i l).length + (kz_rs sc V (i + 1) m).length + 1) = (kz_rs sc V 0 N).length := hl
        have h3 := hwi.2.1
        refine kz_nfi (fun z => ?_) (fun z => ?_) <;> refine kz_it (fun z2 => ⟨pk_in i 4 (by omega), ?_⟩) (fun z2 => absurd (ht.symm.trans z2) (by decide)) <;> rw [nI_clamp (show i < 2 ^ 31 by omega)] <;> refine br_t hs1.1 ?_ <;> refine kz_emit (b := 1) h kz_by1 (by omega) (fun b1 g1 => ?_) <;> refine br_f (by decide) ?_ <;> refine ⟨l.length + 1, kz_eT2 (by omega) hs1.2.1 hs1.2.2 h3 l 0 (l.length + 1) _ b1 hwi.2.2 List.drop_zero (by omega) (by omega) g1 (by simp only [List.length_append, List.length_cons, List.length_nil]; omega) (fun b2 g2 => ?_)⟩ <;> refine nm_r (nI_1 i) ?_ <;> refine ih (i + 1) n _ b2 (by omega) (by omega) g2 ?_ <;> rw [← hP', List.append_assoc, List.append_assoc] <;> rfl
theorem kz_encode {post : St2 → Prop} {V : Nat → Option (Sum Int32 (List Int32))} {N : Nat} (hw : ∀ f, kz_wt sc f (V f)) (hN : N ≤ 4) (hs : ∀ f, f < N → kz_s1 f (V f) a1 a2 a3 a4) (H : ∀ a', kz_pr (kz_rs sc V 0 N) a' → post (fi, sc, en, nI (kz_rs sc V 0 N).length, ra, a1, a2, a3, a4, a5, a6, a7, a8, a9, a')) : wpX_encode post (fi, sc, en, pl, ra, a1, a2, a3, a4, a5, a6, a7, a8, a9, a10) (nI N) :=
  ⟨N + 1, kz_en7 hw hN hs H N 0 (N + 1) [] a10 (by omega) (by omega) (fun i hi => absurd hi (by simp)) (List.nil_append _)⟩
end
end
section
/-! ===== comparing and searching ===== -/
/-- the key behind position j -/
def kz_J (s : Int32) (n : Nat) (a5 a7 : Nat → Int32) (j : Nat) : List Int32 := kz_K s n (a7 (a5 j).toNatClampNeg)
/-- the entries: e of them, the places below e, each with its key; the positions in order -/
def kz_DB (s : Int32) (n e : Nat) (a5 a6 a7 a8 a9 : Nat → Int32) : Prop :=
  e ≤ 20 ∧ (∀ j, j < e → ∃ q, q < e ∧ a5 j = nI q) ∧ (∀ q, q < e → ¬ a6 q = 0) ∧ (∀ q, e ≤ q → q < 20 → a6 q = 0) ∧ (∀ q, q < e → a8 q = nI (kz_K s n (a7 q)).length ∧ kz_rd (kz_K s n (a7 q)) q a9) ∧ kz_so (kz_J s n a5 a7) e
/-- the stage's first n fields hold what tag t says -/
def kz_sg (s : Int32) (n : Nat) (t : Int32) (a1 a2 a3 a4 : Nat → Int32) : Prop := ∀ f, f < n → kz_s1 f (kz_val s t f) a1 a2 a3 a4
theorem kz_rn {r : Int32} (h : r < 0) : ¬ 0 ≤ r := by
  rw [Int32.lt_iff_toInt_lt] at h
  rw [Int32.le_iff_toInt_le]
  omega
theorem kz_rn2 {r : Int32} (h : r < 0) : ¬ 0 < r := by
  rw [Int32.lt_iff_toInt_lt] at h ⊢
  omega
theorem kz_rp {r : Int32} (h : 0 < r) : 0 ≤ r := by
  rw [Int32.lt_iff_toInt_lt] at h
  rw [Int32.le_iff_toInt_le]
  omega
section
variable {fi sc en pl ra : Int32} {a1 a2 a3 a4 a5 a6 a7 a8 a9 a10 : Nat → Int32}
theorem kz_c10 {post : Int32 → Prop} {K P : List Int32} {q : Nat} {ap : Int32} (h : kz_rd K q a9) (hp : kz_pr P a10) (hP : P.length ≤ 64) (bK : ∀ b, b ∈ K → kz_by b) (bP : ∀ b, b ∈ P → kz_by b) : ∀ (P' K' : List Int32) (i n : Nat), K.drop i = K' → P.drop i = P' → i + K'.length = K.length → i + P'.length = P.length → (∀ X, K' = P' ++ X → X = []) → P'.length < n → (kz_lx K' P' → ∀ r, r < 0 → post r) → (K' = P' → post 0) → (kz_lx P' K' → ∀ r, 0 < r → post r) → wX_compare_10 post (nI q) ap (nI K.length) fi sc en (nI P.length) ra a1 a2 a3 a4 a5 a6 a7 a8 a9 a10 n (nI i) := by
  have hq := h.1
  have hK := h.2.1
  intro P'
  induction P' with
  | nil =>
    intro K' i n dK dP lK lP hX hn hl he hg
    obtain ⟨n, rfl⟩ : ∃ m, n = m + 1 := ⟨n - 1, by omega⟩
    have e0 : K' = [] := hX K' rfl
    subst e0
    simp only [List.length_nil] at lK lP
    exact pk_le P.length i (fun _ => pk_le K.length P.length (fun _ => he rfl) (fun z => absurd z (by omega))) (fun z => absurd z (by omega))
  | cons b P' ih =>
    intro K' i n dK dP lK lP hX hn hl he hg
    simp only [List.length_cons] at lP hn
    obtain ⟨n, rfl⟩ : ∃ m, n = m + 1 := ⟨n - 1, by omega⟩
    refine pk_le P.length i (fun z => absurd z (by omega)) (fun _ => ?_)
    rcases K' with _ | ⟨a, K'⟩
    · simp only [List.length_nil] at lK
      exact pk_lt i K.length (fun z => absurd z (by omega)) (fun _ => hl trivial (-1) (by decide))
    · simp only [List.length_cons] at lK
      have ga := kz_rd_get h dK
      have ba : kz_by a := bK a (List.mem_of_mem_drop (by rw [dK]; exact List.mem_cons_self))
      have bb : kz_by b := bP b (List.mem_of_mem_drop (by rw [dP]; exact List.mem_cons_self))
      have dP' : P.drop (i + 1) = P' := by rw [← List.tail_drop, dP]; rfl
      have gb : a10 i = b := by
        have h1 : (P.drop i)[0]? = some b := by rw [dP]; rfl
        rw [List.getElem?_drop, Nat.add_zero, hp i (by omega)] at h1
        exact Option.some.inj h1
      refine pk_lt i K.length (fun _ => ⟨pk_in (64 * q + i) 1280 (by omega) (kz_ix q i), pk_in i 64 (by omega), ?_⟩) (fun z => absurd z (by omega))
      rw [kz_ix, nI_clamp (show 64 * q + i < 2 ^ 31 by omega), nI_clamp (show i < 2 ^ 31 by omega), ga.2.1, gb]
      refine nm_e ?_
      by_cases e : a = b
      · refine br_t ((kz_sub0 ba bb).mpr e) (nm_r (nI_1 i) ?_)
        subst e
        refine ih K' (i + 1) n ga.2.2 dP' (by omega) (by omega) (fun X hX' => hX X (by rw [hX']; rfl)) (by omega) (fun z => hl (Or.inr ⟨rfl, z⟩)) (fun z => he (by rw [z])) (fun z => hg (Or.inr ⟨rfl, z⟩))
      · refine br_f (fun z => e ((kz_sub0 ba bb).mp z)) ?_
        rcases kz_tri a b with z | z | z
        · exact hl (Or.inl z) _ (kz_subn ba bb z)
        · exact absurd z e
        · exact hg (Or.inl z) _ (kz_subp ba bb z)
theorem kz_cmp {post : Int32 → Prop} {K P : List Int32} {q : Nat} {ap : Int32} (h : kz_rd K q a9) (h8 : a8 q = nI K.length) (hp : kz_pr P a10) (hP : P.length ≤ 64) (bK : ∀ b, b ∈ K → kz_by b) (bP : ∀ b, b ∈ P → kz_by b) (hX : ∀ X, K = P ++ X → X = []) (hl : kz_lx K P → ∀ r, r < 0 → post r) (he : K = P → post 0) (hg : kz_lx P K → ∀ r, 0 < r → post r) : wpX_compare post (fi, sc, en, nI P.length, ra, a1, a2, a3, a4, a5, a6, a7, a8, a9, a10) (nI q) ap := by
  have hq := h.1
  refine ⟨pk_in q 20 hq, nm_r (e' := nI K.length) (by rw [nI_clamp (by omega)]; exact h8) ⟨P.length + 1, ?_⟩⟩
  exact kz_c10 h hp hP bK bP P K 0 (P.length + 1) List.drop_zero List.drop_zero (by omega) (by omega) hX (by omega) hl he hg
end
section
variable {fi sc en pl ra : Int32} {a1 a2 a3 a4 a5 a6 a7 a8 a9 a10 : Nat → Int32}
theorem kz_b80 {post : Int32 → Prop} {ap t : Int32} {n e : Nat} (hn : n ≤ 4) (hD : kz_DB sc n e a5 a6 a7 a8 a9) (hp : kz_pr (kz_K sc n t) a10) (R : Nat → Prop) (hR : R = (fun j => kz_lx (kz_J sc n a5 a7 j) (kz_K sc n t))) (H : ∀ b, b ≤ e → (∀ j, j < b → R j) → (∀ j, b ≤ j → j < e → ¬ R j) → post (nI b)) : ∀ (d lo hi m : Nat), hi - lo ≤ d → lo ≤ hi → hi ≤ e → d < m → (∀ j, j < lo → R j) → (∀ j, hi ≤ j → j < e → ¬ R j) → wX_bound_8 post 0 ap (nI n) sc (nI e) (nI (kz_K sc n t).length) ra a1 a2 a3 a4 a5 a6 a7 a8 a9 a10 m (nI lo) (nI hi) := by
  obtain ⟨he, h5, h6, h60, hK, hS⟩ := hD
  have mono : ∀ i j, i ≤ j → j < e → R j → R i := by
    intro i j hij hj
    rw [hR]
    have q := hS i j hij hj
    exact fun z => kz_lx_tl q z
  intro d
  induction d with
  | zero =>
    intro lo hi m hd h1 h2 hm g1 g2
    obtain ⟨m, rfl⟩ : ∃ k, m = k + 1 := ⟨m - 1, by omega⟩
    have e0 : hi = lo := by omega
    subst e0
    exact pk_le hi hi (fun _ => H hi h2 g1 g2) (fun z => absurd z (by omega))
  | succ d ih =>
    intro lo hi m hd h1 h2 hm g1 g2
    obtain ⟨m, rfl⟩ : ∃ k, m = k + 1 := ⟨m - 1, by omega⟩
    refine pk_le hi lo (fun z => ?_) (fun z => ⟨by decide, ?_⟩)
    · have e0 : hi = lo := by omega
      subst e0
      exact H hi h2 g1 g2
    · have em : (nI lo + nI hi) / 2 = nI ((lo + hi) / 2) := by
        rw [nI_add]
        exact pk_div (d := 2) (by omega) (by omega) (by omega)
      obtain ⟨mid, hmid⟩ : ∃ k, k = (lo + hi) / 2 := ⟨_, rfl⟩
      rw [← hmid] at em
      have m1 : lo ≤ mid := by omega
      have m2 : mid < hi := by omega
      obtain ⟨q, hq, e5⟩ := h5 mid (by omega)
      have eJ : kz_J sc n a5 a7 mid = kz_K sc n (a7 q) := by
        unfold kz_J
        rw [e5, nI_clamp (by omega)]
      have hr : R mid → wX_bound_8 post 0 ap (nI n) sc (nI e) (nI (kz_K sc n t).length) ra a1 a2 a3 a4 a5 a6 a7 a8 a9 a10 m (nI (mid + 1)) (nI hi) := fun z => ih (mid + 1) hi m (by omega) (by omega) h2 (by omega) (fun j hj => mono j mid (by omega) (by omega) z) g2
      have hl : ¬ R mid → wX_bound_8 post 0 ap (nI n) sc (nI e) (nI (kz_K sc n t).length) ra a1 a2 a3 a4 a5 a6 a7 a8 a9 a10 m (nI lo) (nI mid) := fun z => ih lo mid m (by omega) (by omega) (by omega) (by omega) g1 (fun j hj1 hj2 w => z (mono mid j hj1 hj2 w))
      rw [hR] at hr hl
      dsimp only at hr hl
      rw [eJ] at hr hl
      have hKq := hK q hq
      have lt := kz_K_len (s := sc) t hn
      refine nm_r em ⟨pk_in mid 20 (by omega), ?_⟩
      rw [nI_clamp (show mid < 2 ^ 31 by omega), e5]
      refine kz_cmp hKq.2 hKq.1 hp (by omega) (kz_K_by (a7 q)) (kz_K_by t) (fun X hX => kz_K_pf hX) (fun z r hr0 => ?_) (fun z => ?_) (fun z r hr0 => ?_)
      · exact br_t rfl (br_f (kz_rn hr0) (br_f (by decide) (nm_r (nI_1 mid) (hr z))))
      · exact br_t rfl (br_t (by decide) (br_t rfl (hl (by rw [z]; exact kz_lx_irr _))))
      · exact br_t rfl (br_t (kz_rp hr0) (br_t rfl (hl (fun w => kz_lx_irr _ (kz_lx_tr _ _ _ z w)))))
theorem kz_bound0 {post : Int32 → Prop} {ap t : Int32} {n e : Nat} (hn : n ≤ 4) (hD : kz_DB sc n e a5 a6 a7 a8 a9) (hp : kz_pr (kz_K sc n t) a10) (H : ∀ b, kz_lo (kz_J sc n a5 a7) e (kz_K sc n t) b → post (nI b)) : wpX_bound post (nI n, sc, nI e, nI (kz_K sc n t).length, ra, a1, a2, a3, a4, a5, a6, a7, a8, a9, a10) 0 ap :=
  ⟨e + 1, kz_b80 hn hD hp _ rfl (fun b h1 h2 h3 => H b ⟨h1, h2, h3⟩) e 0 e (e + 1) (by omega) (by omega) (by omega) (by omega) (fun j hj => absurd hj (by omega)) (fun j h1 h2 => absurd h2 (by omega))⟩
theorem kz_b81 {post : Int32 → Prop} {ap t : Int32} {n e : Nat} (hn : n ≤ 4) (hD : kz_DB sc n e a5 a6 a7 a8 a9) (hp : kz_pr (kz_K sc n t) a10) (R : Nat → Prop) (hR : R = (fun j => ¬ kz_lx (kz_K sc n t) (kz_J sc n a5 a7 j))) (H : ∀ b, b ≤ e → (∀ j, j < b → R j) → (∀ j, b ≤ j → j < e → ¬ R j) → post (nI b)) : ∀ (d lo hi m : Nat), hi - lo ≤ d → lo ≤ hi → hi ≤ e → d < m → (∀ j, j < lo → R j) → (∀ j, hi ≤ j → j < e → ¬ R j) → wX_bound_8 post 1 ap (nI n) sc (nI e) (nI (kz_K sc n t).length) ra a1 a2 a3 a4 a5 a6 a7 a8 a9 a10 m (nI lo) (nI hi) := by
  obtain ⟨he, h5, h6, h60, hK, hS⟩ := hD
  have mono : ∀ i j, i ≤ j → j < e → R j → R i := by
    intro i j hij hj
    rw [hR]
    have q := hS i j hij hj
    exact fun z w => z (kz_lx_lt w q)
  intro d
  induction d with
  | zero =>
    intro lo hi m hd h1 h2 hm g1 g2
    obtain ⟨m, rfl⟩ : ∃ k, m = k + 1 := ⟨m - 1, by omega⟩
    have e0 : hi = lo := by omega
    subst e0
    exact pk_le hi hi (fun _ => H hi h2 g1 g2) (fun z => absurd z (by omega))
  | succ d ih =>
    intro lo hi m hd h1 h2 hm g1 g2
    obtain ⟨m, rfl⟩ : ∃ k, m = k + 1 := ⟨m - 1, by omega⟩
    refine pk_le hi lo (fun z => ?_) (fun z => ⟨by decide, ?_⟩)
    · have e0 : hi = lo := by omega
      subst e0
      exact H hi h2 g1 g2
    · have em : (nI lo + nI hi) / 2 = nI ((lo + hi) / 2) := by
        rw [nI_add]
        exact pk_div (d := 2) (by omega) (by omega) (by omega)
      obtain ⟨mid, hmid⟩ : ∃ k, k = (lo + hi) / 2 := ⟨_, rfl⟩
      rw [← hmid] at em
      have m1 : lo ≤ mid := by omega
      have m2 : mid < hi := by omega
      obtain ⟨q, hq, e5⟩ := h5 mid (by omega)
      have eJ : kz_J sc n a5 a7 mid = kz_K sc n (a7 q) := by
        unfold kz_J
        rw [e5, nI_clamp (by omega)]
      have hr : R mid → wX_bound_8 post 1 ap (nI n) sc (nI e) (nI (kz_K sc n t).length) ra a1 a2 a3 a4 a5 a6 a7 a8 a9 a10 m (nI (mid + 1)) (nI hi) := fun z => ih (mid + 1) hi m (by omega) (by omega) h2 (by omega) (fun j hj => mono j mid (by omega) (by omega) z) g2
      have hl : ¬ R mid → wX_bound_8 post 1 ap (nI n) sc (nI e) (nI (kz_K sc n t).length) ra a1 a2 a3 a4 a5 a6 a7 a8 a9 a10 m (nI lo) (nI mid) := fun z => ih lo mid m (by omega) (by omega) (by omega) (by omega) g1 (fun j hj1 hj2 w => z (mono mid j hj1 hj2 w))
      rw [hR] at hr hl
      dsimp only at hr hl
      rw [eJ] at hr hl
      have hKq := hK q hq
      have lt := kz_K_len (s := sc) t hn
      refine nm_r em ⟨pk_in mid 20 (by omega), ?_⟩
      rw [nI_clamp (show mid < 2 ^ 31 by omega), e5]
      refine kz_cmp hKq.2 hKq.1 hp (by omega) (kz_K_by (a7 q)) (kz_K_by t) (fun X hX => kz_K_pf hX) (fun z r hr0 => ?_) (fun z => ?_) (fun z r hr0 => ?_)
      · exact br_f (by decide) (br_f (kz_rn2 hr0) (br_f (by decide) (nm_r (nI_1 mid) (hr (fun w => kz_lx_irr _ (kz_lx_tr _ _ _ z w))))))
      · exact br_f (by decide) (br_f (by decide) (br_f (by decide) (nm_r (nI_1 mid) (hr (by rw [z]; exact kz_lx_irr _)))))
      · exact br_f (by decide) (br_t hr0 (br_t rfl (hl (fun w => w z))))
theorem kz_bound1 {post : Int32 → Prop} {ap t : Int32} {n e : Nat} (hn : n ≤ 4) (hD : kz_DB sc n e a5 a6 a7 a8 a9) (hp : kz_pr (kz_K sc n t) a10) (H : ∀ b, kz_up (kz_J sc n a5 a7) e (kz_K sc n t) b → post (nI b)) : wpX_bound post (nI n, sc, nI e, nI (kz_K sc n t).length, ra, a1, a2, a3, a4, a5, a6, a7, a8, a9, a10) 1 ap :=
  ⟨e + 1, kz_b81 hn hD hp _ rfl (fun b h1 h2 h3 => H b ⟨h1, h2, fun j j1 j2 => Classical.not_not.mp (h3 j j1 j2)⟩) e 0 e (e + 1) (by omega) (by omega) (by omega) (by omega) (fun j hj => absurd hj (by omega)) (fun j h1 h2 => absurd h2 (by omega))⟩
theorem kz_below {post : Int32 → St2 → Prop} {t : Int32} {n e : Nat} (hn : n ≤ 4) (hD : kz_DB sc n e a5 a6 a7 a8 a9) (hs : kz_sg sc n t a1 a2 a3 a4) (H : ∀ (b : Nat) (pl' : Int32) (b10 : Nat → Int32), kz_lo (kz_J sc n a5 a7) e (kz_K sc n t) b → post (nI b) (nI n, sc, nI e, pl', ra, a1, a2, a3, a4, a5, a6, a7, a8, a9, b10)) : wpX_below post (nI n, sc, nI e, pl, ra, a1, a2, a3, a4, a5, a6, a7, a8, a9, a10) := by
  unfold wpX_below
  refine kz_encode (kz_val_wt sc t) hn hs (fun b10 g => ?_)
  exact kz_bound0 hn hD g (fun b hb => H b _ b10 hb)
theorem kz_matching {post : Int32 → St2 → Prop} {t : Int32} {n e : Nat} (hn : n ≤ 4) (hD : kz_DB sc n e a5 a6 a7 a8 a9) (hs : kz_sg sc n t a1 a2 a3 a4) (H : ∀ (b u : Nat) (pl' : Int32) (b10 : Nat → Int32), kz_lo (kz_J sc n a5 a7) e (kz_K sc n t) b → kz_up (kz_J sc n a5 a7) e (kz_K sc n t) u → post (nI u - nI b) (nI n, sc, nI e, pl', ra, a1, a2, a3, a4, a5, a6, a7, a8, a9, b10)) : wpX_matching post (nI n, sc, nI e, pl, ra, a1, a2, a3, a4, a5, a6, a7, a8, a9, a10) (nI n) := by
  unfold wpX_matching
  refine br_f (nI_pos (by omega)) (br_t (nI_le (Nat.le_refl n) (by omega)) ?_)
  refine kz_encode (kz_val_wt sc t) hn hs (fun b10 g => ?_)
  refine kz_bound0 hn hD g (fun b hb => ?_)
  exact kz_bound1 hn hD g (fun u hu => H b u _ b10 hb hu)
end
end
section
/-! ===== the stage: setNull, setInt, setText, append, the law's stage ===== -/
theorem kz_s1_fr {s : Int32} {g : Nat} {v : Option (Sum Int32 (List Int32))} {a1 a2 a3 a4 b1 b2 b3 b4 : Nat → Int32} (hw : kz_wt s g v) (h : kz_s1 g v a1 a2 a3 a4) (e1 : b1 g = a1 g) (e2 : b2 g = a2 g) (e3 : b3 g = a3 g) (e4 : ∀ i, i < 3 → b4 (6 * g + i) = a4 (6 * g + i)) : kz_s1 g v b1 b2 b3 b4 := by
  rcases v with _ | x | l
  · have h' : ¬ a1 g = 0 := h
    show ¬ b1 g = 0
    rw [e1]
    exact h'
  · have h' : a1 g = 0 ∧ a2 g = x := h
    show b1 g = 0 ∧ b2 g = x
    rw [e1, e2]
    exact h'
  · have h' : a1 g = 0 ∧ a3 g = nI l.length ∧ ∀ i, i < l.length → l[i]? = some (a4 (6 * g + i)) := h
    have hl := hw.2.1
    show b1 g = 0 ∧ b3 g = nI l.length ∧ ∀ i, i < l.length → l[i]? = some (b4 (6 * g + i))
    rw [e1, e3]
    exact ⟨h'.1, h'.2.1, fun i hi => by rw [e4 i (by omega)]; exact h'.2.2 i hi⟩
/-- one more field holds its value; the fields ahead of it are as before -/
theorem kz_sg_put {s t : Int32} {f : Nat} {a1 a2 a3 a4 b1 b2 b3 b4 : Nat → Int32} (h : kz_sg s f t a1 a2 a3 a4) (hf : kz_s1 f (kz_val s t f) b1 b2 b3 b4) (e1 : ∀ g, g ≠ f → b1 g = a1 g) (e2 : ∀ g, g ≠ f → b2 g = a2 g) (e3 : ∀ g, g ≠ f → b3 g = a3 g) (e4 : ∀ k, k < 6 * f ∨ 6 * f + 6 ≤ k → b4 k = a4 k) : kz_sg s (f + 1) t b1 b2 b3 b4 := by
  intro g hg
  by_cases e : g = f
  · subst e
    exact hf
  · exact kz_s1_fr (kz_val_wt s t g) (h g (by omega)) (e1 g e) (e2 g e) (e3 g e) (fun i hi => e4 _ (by omega))
theorem kz_isn {post : Int32 → Prop} {t : Int32} {f : Nat} (h1 : kz_nl t f = true → post 1) (h0 : kz_nl t f = false → post 0) : wpL_isNull post () t (nI f) :=
  ⟨fun z => h1 (decide_eq_true z), fun z => h0 (decide_eq_false z)⟩
theorem kz_txt {post : Int32 → Prop} {s : Int32} {f : Nat} (h1 : kz_tx s f = true → post 1) (h0 : kz_tx s f = false → post 0) : wpL_text post () s (nI f) :=
  ⟨fun z => h1 (decide_eq_true z), fun z => h0 (decide_eq_false z)⟩
theorem kz_let {post : Int32 → Prop} {t : Int32} {f i : Nat} (H : post (kz_le t f i)) : wpL_letter post () t (nI f) (nI i) := by
  refine nm_e (e := kz_l3 t f i) (br_c (fun z => ?_) (fun z => br_c (fun z2 => ?_) (fun z2 => ?_)))
  · unfold kz_le at H
    rw [if_pos z] at H
    exact H
  · unfold kz_le at H
    rw [if_neg z, if_pos z2] at H
    exact H
  · unfold kz_le at H
    rw [if_neg z, if_neg z2] at H
    exact H
theorem kz_num {post : Int32 → Prop} {t : Int32} {f : Nat} (H : post (kz_nu t f)) : wpL_number post () t (nI f) := by
  refine nm_e (br_c (fun z => ?_) (fun z => ?_))
  · unfold kz_nu at H
    rw [if_pos z] at H
    exact H
  · unfold kz_nu at H
    rw [if_neg z] at H
    exact H
theorem kz_siz {post : Int32 → Prop} {t : Int32} {f : Nat} (H : post (nI (kz_sz t f))) : wpL_size post () t (nI f) := by
  unfold wpL_size
  rw [(kz_sz_e t f).1]
  exact H
section
variable {fi sc en pl ra : Int32} {a1 a2 a3 a4 a5 a6 a7 a8 a9 a10 : Nat → Int32}
theorem kz_setNull {post : Int32 → St2 → Prop} {f n : Nat} (hf : f < n) (hn : n ≤ 4) (H : post 0 (nI n, sc, en, pl, ra, upd a1 f 1, a2, a3, a4, a5, a6, a7, a8, a9, a10)) : wpX_setNull post (nI n, sc, en, pl, ra, a1, a2, a3, a4, a5, a6, a7, a8, a9, a10) (nI f) := by
  unfold wpX_setNull
  exact kz_bf hf hn (br_t rfl ⟨pk_in f 4 (by omega), nm_r (by rw [nI_clamp (by omega)]) H⟩)
theorem kz_setInt {post : Int32 → St2 → Prop} {f n : Nat} {x : Int32} (hf : f < n) (hn : n ≤ 4) (ht : kz_tx sc f = false) (H : post 0 (nI n, sc, en, pl, ra, upd a1 f 0, upd a2 f x, a3, a4, a5, a6, a7, a8, a9, a10)) : wpX_setInt post (nI n, sc, en, pl, ra, a1, a2, a3, a4, a5, a6, a7, a8, a9, a10) (nI f) x := by
  unfold wpX_setInt
  refine kz_bf hf hn (br_t rfl ?_)
  exact kz_it (fun z => absurd (ht.symm.trans z) (by decide)) (fun _ => br_t rfl ⟨pk_in f 4 (by omega), nm_r (by rw [nI_clamp (by omega)]) ⟨pk_in f 4 (by omega), nm_r (by rw [nI_clamp (by omega)]) H⟩⟩)
theorem kz_setText {post : Int32 → St2 → Prop} {f n : Nat} (hf : f < n) (hn : n ≤ 4) (ht : kz_tx sc f = true) (H : post 0 (nI n, sc, en, pl, ra, upd a1 f 0, a2, upd a3 f 0, a4, a5, a6, a7, a8, a9, a10)) : wpX_setText post (nI n, sc, en, pl, ra, a1, a2, a3, a4, a5, a6, a7, a8, a9, a10) (nI f) := by
  unfold wpX_setText
  refine kz_bf hf hn (br_t rfl ?_)
  exact kz_it (fun _ => br_f (by decide) ⟨pk_in f 4 (by omega), nm_r (by rw [nI_clamp (by omega)]) ⟨pk_in f 4 (by omega), nm_r (by rw [nI_clamp (by omega)]) H⟩⟩) (fun z => absurd (ht.symm.trans z) (by decide))
theorem kz_append {post : Int32 → St2 → Prop} {f n i : Nat} {c : Int32} (hf : f < n) (hn : n ≤ 4) (ht : kz_tx sc f = true) (h1 : a1 f = 0) (h3 : a3 f = nI i) (hi : i < 6) (hc : kz_by c) (H : ∀ r, post r (nI n, sc, en, pl, ra, a1, a2, upd a3 f (nI (i + 1)), upd a4 (6 * f + i) c, a5, a6, a7, a8, a9, a10)) : wpX_append post (nI n, sc, en, pl, ra, a1, a2, a3, a4, a5, a6, a7, a8, a9, a10) (nI f) c := by
  have hc0 := kz_by_nn hc
  have hc1 : c ≤ 255 := by
    obtain ⟨k, hk, rfl⟩ := hc
    exact nI_le (b := 255) (by omega) (by omega)
  unfold wpX_append
  refine kz_bf hf hn (br_t rfl ?_)
  refine kz_it (fun _ => br_f (by decide) ⟨pk_in f 4 (by omega), ?_⟩) (fun z => absurd (ht.symm.trans z) (by decide))
  rw [nI_clamp (show f < 2 ^ 31 by omega)]
  refine br_t h1 (br_f hc0 (br_t hc1 ⟨pk_in f 4 (by omega), nm_r h3 ?_⟩))
  refine br_t (nI_lt (b := 6) hi (by omega)) ⟨pk_in (6 * f + i) 24 (by omega) (kz_ix6 f i), nm_r (by rw [kz_ix6, nI_clamp (by omega)]) ⟨pk_in f 4 (by omega), nm_r (by rw [nI_1]) ?_⟩⟩
  exact H _
theorem kz_s55 {post : St2 → Prop} {J3 : Int32 → Int32 → Int32 → Int32 → Int32 → Int32 → (Nat → Int32) → (Nat → Int32) → (Nat → Int32) → (Nat → Int32) → (Nat → Int32) → (Nat → Int32) → (Nat → Int32) → (Nat → Int32) → (Nat → Int32) → (Nat → Int32) → Prop} {x1 x2 t : Int32} {f n : Nat} (hf : f < n) (hn : n ≤ 4) (ht : kz_tx sc f = true) (h1 : a1 f = 0)
    (H : ∀ b3 b4 : Nat → Int32, b3 f = nI (kz_sz t f) → (∀ g, g ≠ f → b3 g = a3 g) → (∀ j, j < kz_sz t f → (kz_tl t f)[j]? = some (b4 (6 * f + j))) → (∀ k, k < 6 * f ∨ 6 * f + 6 ≤ k → b4 k = a4 k) → J3 (nI (f + 1)) (nI n) sc en pl ra a1 a2 b3 b4 a5 a6 a7 a8 a9 a10) :
    ∀ (d i m : Nat) (b3 b4 : Nat → Int32), i + d = kz_sz t f → d < m → b3 f = nI i → (∀ g, g ≠ f → b3 g = a3 g) → (∀ j, j < i → (kz_tl t f)[j]? = some (b4 (6 * f + j))) → (∀ k, k < 6 * f ∨ 6 * f + 6 ≤ k → b4 k = a4 k) → wL_stage_55 post J3 x1 x2 t (nI f) (nI (kz_sz t f)) m (nI i) (nI n) sc en pl ra a1 a2 b3 b4 a5 a6 a7 a8 a9 a10 := by
  have hz := (kz_sz_e t f).2
  intro d
  induction d with
  | zero =>
    intro i m b3 b4 hi hm h3 f3 h4 f4
    obtain ⟨m, rfl⟩ : ∃ k, m = k + 1 := ⟨m - 1, by omega⟩
    have e : i = kz_sz t f := by omega
    subst e
    exact pk_le (kz_sz t f) (kz_sz t f) (fun _ => nm_r (nI_1 f) (H b3 b4 h3 f3 h4 f4)) (fun z => absurd z (by omega))
  | succ d ih =>
    intro i m b3 b4 hi hm h3 f3 h4 f4
    obtain ⟨m, rfl⟩ : ∃ k, m = k + 1 := ⟨m - 1, by omega⟩
    refine pk_le (kz_sz t f) i (fun z => absurd z (by omega)) (fun _ => ?_)
    refine kz_let ?_
    refine kz_append hf hn ht h1 h3 (by omega) (kz_le_by t f i) (fun r => ?_)
    refine nm_r (nI_1 i) (ih (i + 1) m _ _ (by omega) (by omega) pk_us (fun g hg => by rw [pk_un hg]; exact f3 g hg) (fun j hj => ?_) (fun k hk => by rw [pk_un (by omega)]; exact f4 k hk))
    by_cases e : j = i
    · subst e
      rw [pk_us]
      exact kz_tl_get (by omega)
    · rw [pk_un (by omega)]
      exact h4 j (by omega)
theorem kz_st3 {post : St2 → Prop} {t : Int32} {N : Nat} (hN : N ≤ 4) (H : ∀ b1 b2 b3 b4 : Nat → Int32, kz_sg sc N t b1 b2 b3 b4 → post (nI N, sc, en, pl, ra, b1, b2, b3, b4, a5, a6, a7, a8, a9, a10)) :
    ∀ (d i m : Nat) (a1 a2 a3 a4 : Nat → Int32), i + d = N → d < m → kz_sg sc i t a1 a2 a3 a4 → wL_stage_3 post (nI N) sc t m (nI i) (nI N) sc en pl ra a1 a2 a3 a4 a5 a6 a7 a8 a9 a10 := by
  intro d
  induction d with
  | zero =>
    intro i m c1 c2 c3 c4 hi hm hs
    obtain ⟨m, rfl⟩ : ∃ k, m = k + 1 := ⟨m - 1, by omega⟩
    have e : i = N := by omega
    subst e
    exact pk_le i i (fun _ => H c1 c2 c3 c4 hs) (fun z => absurd z (by omega))
  | succ d ih =>
    intro i m c1 c2 c3 c4 hi hm hs
    obtain ⟨m, rfl⟩ : ∃ k, m = k + 1 := ⟨m - 1, by omega⟩
    refine pk_le N i (fun z => absurd z (by omega)) (fun _ => ?_)
    refine kz_isn (fun z => br_f (by decide) ?_) (fun z => br_t rfl ?_)
    · refine kz_setNull (by omega) hN (nm_r (nI_1 i) (ih (i + 1) m _ _ _ _ (by omega) (by omega) ?_))
      refine kz_sg_put hs ?_ (fun g hg => pk_un hg) (fun _ _ => rfl) (fun _ _ => rfl) (fun _ _ => rfl)
      rw [kz_val_n z]
      show ¬ upd c1 i 1 i = 0
      rw [pk_us]
      decide
    · refine kz_txt (fun z2 => br_f (by decide) ?_) (fun z2 => br_t rfl ?_)
      · refine kz_siz ?_
        refine kz_setText (by omega) hN z2 ⟨kz_sz t i + 1, ?_⟩
        refine kz_s55 (by omega) hN z2 pk_us (fun b3 b4 h3 f3 h4 f4 => ?_) (kz_sz t i) 0 (kz_sz t i + 1) _ _ (by omega) (by omega) pk_us (fun _ _ => rfl) (fun j hj => absurd hj (by omega)) (fun _ _ => rfl)
        refine ih (i + 1) m _ _ _ _ (by omega) (by omega) ?_
        refine kz_sg_put hs ?_ (fun g hg => pk_un hg) (fun _ _ => rfl) (fun g hg => by rw [f3 g hg, pk_un hg]) f4
        rw [kz_val_t z z2]
        refine ⟨pk_us, ?_, ?_⟩
        · rw [kz_tl_len]
          exact h3
        · rw [kz_tl_len]
          exact h4
      · refine kz_num ?_
        refine kz_setInt (by omega) hN z2 (nm_r (nI_1 i) (ih (i + 1) m _ _ _ _ (by omega) (by omega) ?_))
        refine kz_sg_put hs ?_ (fun g hg => pk_un hg) (fun g hg => pk_un hg) (fun _ _ => rfl) (fun _ _ => rfl)
        rw [kz_val_i z z2]
        exact ⟨pk_us, pk_us⟩
theorem kz_stage {post : St2 → Prop} {t : Int32} {N : Nat} (hN : N ≤ 4) (H : ∀ b1 b2 b3 b4 : Nat → Int32, kz_sg sc N t b1 b2 b3 b4 → post (nI N, sc, en, pl, ra, b1, b2, b3, b4, a5, a6, a7, a8, a9, a10)) : wpL_stage post (nI N, sc, en, pl, ra, a1, a2, a3, a4, a5, a6, a7, a8, a9, a10) (nI N) sc t :=
  ⟨N + 1, kz_st3 hN H N 0 (N + 1) a1 a2 a3 a4 (by omega) (by omega) (fun f hf => absurd hf (by omega))⟩
end
end
section
/-! ===== load: a key is read back into the stage ===== -/
theorem kz_vb0 : vp_nar .boolean 0 = 0 := by decide +kernel
section
variable {fi sc en pl ra : Int32} {a1 a2 a3 a4 a5 a6 a7 a8 a9 a10 : Nat → Int32}
theorem kz_l38 {post : St2 → Prop} {K R L : List Int32} {q f : Nat} (hf : f < 4) (h : kz_rd K q a9) (hL : L.length ≤ 3) (bL : ∀ c, c ∈ L → kz_by c)
    (H : ∀ (ra' : Int32) (b3 b4 : Nat → Int32), b3 f = nI L.length → (∀ g, g ≠ f → b3 g = a3 g) → (∀ j, j < L.length → L[j]? = some (b4 (6 * f + j))) → (∀ k, k < 6 * f ∨ 6 * f + 6 ≤ k → b4 k = a4 k) → post (fi, sc, en, pl, ra', a1, a2, b3, b4, a5, a6, a7, a8, a9, a10)) :
    ∀ (l : List Int32) (i r m : Nat) (c : Int32) (b3 b4 : Nat → Int32), L.drop i = l → i + l.length = L.length → l.length < m → (l = [] → c = -1) → (∀ d l', l = d :: l' → c = d ∧ K.drop r = kz_eT sc f l' ++ R) → b3 f = nI i → (∀ g, g ≠ f → b3 g = a3 g) → (∀ j, j < i → L[j]? = some (b4 (6 * f + j))) → (∀ k, k < 6 * f ∨ 6 * f + 6 ≤ k → b4 k = a4 k) → wX_loadField_38 post (nI q) (nI f) m c (nI i) fi sc en pl (nI r) a1 a2 b3 b4 a5 a6 a7 a8 a9 a10 := by
  intro l
  induction l with
  | nil =>
    intro i r m c b3 b4 dL li hm c0 c1 h3 f3 h4 f4
    obtain ⟨m, rfl⟩ : ∃ k, m = k + 1 := ⟨m - 1, by omega⟩
    have e : i = L.length := li
    have ec := c0 rfl
    subst e
    subst ec
    exact pk_le 6 L.length (fun _ => H _ b3 b4 h3 f3 h4 f4) (fun _ => br_t (by decide) (H _ b3 b4 h3 f3 h4 f4))
  | cons d l ih =>
    intro i r m c b3 b4 dL li hm c0 c1 h3 f3 h4 f4
    simp only [List.length_cons] at li hm
    obtain ⟨m, rfl⟩ : ∃ k, m = k + 1 := ⟨m - 1, by omega⟩
    obtain ⟨ec, hd⟩ := c1 d l rfl
    subst ec
    have bd : kz_by c := bL c (List.mem_of_mem_drop (by rw [dL]; exact List.mem_cons_self))
    have dL' : L.drop (i + 1) = l := by rw [← List.tail_drop, dL]; rfl
    have hx : L[i]? = some c := by
      have h1 : (L.drop i)[0]? = some c := by rw [dL]; rfl
      rw [List.getElem?_drop, Nat.add_zero] at h1
      exact h1
    have h4' : ∀ j, j < i + 1 → L[j]? = some (upd b4 (6 * f + i) c (6 * f + j)) := by
      intro j hj
      by_cases e : j = i
      · subst e
        rw [pk_us]
        exact hx
      · rw [pk_un (by omega)]
        exact h4 j (by omega)
    have f4' : ∀ k, k < 6 * f ∨ 6 * f + 6 ≤ k → upd b4 (6 * f + i) c k = a4 k := by
      intro k hk
      rw [pk_un (by omega)]
      exact f4 k hk
    have f3' : ∀ g, g ≠ f → upd b3 f (nI (i + 1)) g = a3 g := by
      intro g hg
      rw [pk_un hg]
      exact f3 g hg
    refine pk_le 6 i (fun z => absurd z (by omega)) (fun _ => br_f (kz_by_nn bd) ⟨pk_in (6 * f + i) 24 (by omega) (kz_ix6 f i), nm_r (e' := upd b4 (6 * f + i) c) (by rw [kz_ix6, nI_clamp (by omega)]) ⟨pk_in f 4 hf, nm_r (e' := upd b3 f (nI (i + 1))) (by rw [nI_clamp (by omega), nI_1]) ?_⟩⟩)
    rcases l with _ | ⟨d2, l2⟩
    · refine kz_rc0_2 h hd (fun r' hr => nm_r (nI_1 i) ?_)
      exact ih (i + 1) r' m (-1) _ _ dL' (by omega) (by omega) (fun _ => rfl) (fun d l' z => absurd z.symm (List.cons_ne_nil d l')) pk_us f3' h4' f4'
    · refine kz_rc1_2 h hd (fun r' hr => nm_r (nI_1 i) ?_)
      refine ih (i + 1) r' m d2 _ _ dL' (by omega) (by omega) (fun z => absurd z (List.cons_ne_nil d2 l2)) (fun d l' z => ?_) pk_us f3' h4' f4'
      injection z with z1 z2
      subst z1
      subst z2
      exact ⟨rfl, hr⟩
theorem kz_lf {post : St2 → Prop} {K R : List Int32} {q f r : Nat} {v : Sum Int32 (List Int32)} (hf : f < 4) (h : kz_rd K q a9) (hw : kz_wt sc f (some v)) (h1 : a1 f = 0) (hd : K.drop r = kz_bd sc f (some v) ++ R)
    (H : ∀ (ra' : Int32) (b2 b3 b4 : Nat → Int32), kz_s1 f (some v) a1 b2 b3 b4 → (∀ g, g ≠ f → b2 g = a2 g) → (∀ g, g ≠ f → b3 g = a3 g) → (∀ k, k < 6 * f ∨ 6 * f + 6 ≤ k → b4 k = a4 k) → post (fi, sc, en, pl, ra', a1, b2, b3, b4, a5, a6, a7, a8, a9, a10)) : wpX_loadField post (fi, sc, en, pl, nI r, a1, a2, a3, a4, a5, a6, a7, a8, a9, a10) (nI q) (nI f) := by
  unfold wpX_loadField
  rcases v with x | l
  · have ht : kz_tx sc f = false := hw
    refine kz_it (fun z => absurd (ht.symm.trans z) (by decide)) (fun _ => br_t rfl ?_)
    refine kz_ri h hd (fun r' => ⟨pk_in f 4 hf, nm_r (e' := upd a2 f x) (by rw [nI_clamp (by omega)]) ?_⟩)
    exact H _ _ _ _ ⟨h1, pk_us⟩ (fun g hg => pk_un hg) (fun _ _ => rfl) (fun _ _ => rfl)
  · have ht : kz_tx sc f = true := hw.1
    have hl := hw.2.1
    refine kz_it (fun _ => br_f (by decide) ⟨pk_in f 4 hf, nm_r (e' := upd a3 f 0) (by rw [nI_clamp (by omega)]) ?_⟩) (fun z => absurd (ht.symm.trans z) (by decide))
    have H' : ∀ (ra' : Int32) (b3 b4 : Nat → Int32), b3 f = nI l.length → (∀ g, g ≠ f → b3 g = upd a3 f 0 g) → (∀ j, j < l.length → l[j]? = some (b4 (6 * f + j))) → (∀ k, k < 6 * f ∨ 6 * f + 6 ≤ k → b4 k = a4 k) → post (fi, sc, en, pl, ra', a1, a2, b3, b4, a5, a6, a7, a8, a9, a10) :=
      fun ra' b3 b4 g1 g2 g3 g4 => H ra' a2 b3 b4 ⟨h1, g1, g3⟩ (fun _ _ => rfl) (fun g hg => by rw [g2 g hg, pk_un hg]) g4
    rcases l with _ | ⟨d, l2⟩
    · refine kz_rc0_2 h hd (fun r' hr => ⟨1, ?_⟩)
      exact kz_l38 (R := R) hf h hl hw.2.2 H' [] 0 r' 1 (-1) _ _ rfl rfl (by decide) (fun _ => rfl) (fun d l' z => absurd z.symm (List.cons_ne_nil d l')) pk_us (fun _ _ => rfl) (fun j hj => absurd hj (by omega)) (fun _ _ => rfl)
    · refine kz_rc1_2 h hd (fun r' hr => ⟨(d :: l2).length + 1, ?_⟩)
      refine kz_l38 (R := R) hf h hl hw.2.2 H' (d :: l2) 0 r' ((d :: l2).length + 1) d _ _ rfl (by omega) (by omega) (fun z => absurd z (List.cons_ne_nil d l2)) (fun d' l' z => ?_) pk_us (fun _ _ => rfl) (fun j hj => absurd hj (by omega)) (fun _ _ => rfl)
      injection z with z1 z2
      subst z1
      subst z2
      exact ⟨rfl, hr⟩
theorem kz_l20 {post : Int32 → St2 → Prop} {t : Int32} {N q : Nat} (hN : N ≤ 4) (h : kz_rd (kz_K sc N t) q a9)
    (H : ∀ (ra' : Int32) (b1 b2 b3 b4 : Nat → Int32), kz_sg sc N t b1 b2 b3 b4 → post (a7 q) (nI N, sc, en, pl, ra', b1, b2, b3, b4, a5, a6, a7, a8, a9, a10)) :
    ∀ (d i m : Nat) (ra : Int32) (a1 a2 a3 a4 : Nat → Int32), i + d = N → d < m → kz_sg sc i t a1 a2 a3 a4 → wX_load_20 post (nI q) m (nI i) (nI N) sc en pl ra a1 a2 a3 a4 a5 a6 a7 a8 a9 a10 := by
  have hq := h.1
  intro d
  induction d with
  | zero =>
    intro i m c0 c1 c2 c3 c4 hi hm hs
    obtain ⟨m, rfl⟩ : ∃ k, m = k + 1 := ⟨m - 1, by omega⟩
    have e : i = N := by omega
    subst e
    refine pk_le i i (fun _ => ⟨pk_in q 20 hq, ?_⟩) (fun z => absurd z (by omega))
    rw [nI_clamp (show q < 2 ^ 31 by omega)]
    exact H c0 c1 c2 c3 c4 hs
  | succ d ih =>
    intro i m c0 c1 c2 c3 c4 hi hm hs
    obtain ⟨m, rfl⟩ : ∃ k, m = k + 1 := ⟨m - 1, by omega⟩
    have hwi := kz_val_wt sc t i
    refine pk_le N i (fun z => absurd z (by omega)) (fun _ => ?_)
    refine kz_seek (n := N) h (kz_val_wt sc t) hN (show i < N by omega) (fun r' R hd => ?_)
    cases hV : kz_val sc t i with
    | none =>
      refine ⟨pk_in i 4 (by omega), nm_r (e' := upd c1 i 1) (by rw [nI_clamp (by omega)]; rfl) ⟨pk_in i 4 (by omega), ?_⟩⟩
      rw [nI_clamp (show i < 2 ^ 31 by omega)]
      refine br_f (by rw [pk_us]; decide) (nm_r (nI_1 i) (ih (i + 1) m _ _ _ _ _ (by omega) (by omega) ?_))
      refine kz_sg_put hs ?_ (fun g hg => pk_un hg) (fun _ _ => rfl) (fun _ _ => rfl) (fun _ _ => rfl)
      rw [hV]
      show ¬ upd c1 i 1 i = 0
      rw [pk_us]
      decide
    | some v =>
      rw [hV] at hwi hd
      refine ⟨pk_in i 4 (by omega), nm_r (e' := upd c1 i 0) (by rw [nI_clamp (by omega)]; show upd c1 i (vp_nar .boolean 0) = _; rw [kz_vb0]) ⟨pk_in i 4 (by omega), ?_⟩⟩
      rw [nI_clamp (show i < 2 ^ 31 by omega)]
      refine br_t pk_us ?_
      refine kz_lf (by omega) h hwi pk_us hd (fun ra' b2 b3 b4 g1 g2 g3 g4 => ?_)
      refine nm_r (nI_1 i) (ih (i + 1) m _ _ _ _ _ (by omega) (by omega) ?_)
      refine kz_sg_put hs ?_ (fun g hg => pk_un hg) g2 g3 g4
      rw [hV]
      exact g1
theorem kz_load {post : Int32 → St2 → Prop} {N e p : Nat} (hN : N ≤ 4) (hD : kz_DB sc N e a5 a6 a7 a8 a9) (hp : p < e)
    (H : ∀ (ra' : Int32) (b1 b2 b3 b4 : Nat → Int32), kz_sg sc N (a7 (a5 p).toNatClampNeg) b1 b2 b3 b4 → post (a7 (a5 p).toNatClampNeg) (nI N, sc, nI e, pl, ra', b1, b2, b3, b4, a5, a6, a7, a8, a9, a10)) : wpX_load post (nI N, sc, nI e, pl, ra, a1, a2, a3, a4, a5, a6, a7, a8, a9, a10) (nI p) := by
  obtain ⟨he, h5, h6, h60, hK, hS⟩ := hD
  obtain ⟨q, hq, e5⟩ := h5 p hp
  have eq : (a5 p).toNatClampNeg = q := by rw [e5, nI_clamp (by omega)]
  rw [eq] at H
  unfold wpX_load
  refine kz_ne hp he (br_t rfl ⟨pk_in p 20 (by omega), nm_r (e' := nI q) (by rw [nI_clamp (by omega)]; exact e5) ⟨N + 1, ?_⟩⟩)
  exact kz_l20 hN (hK q hq).2 H N 0 (N + 1) ra a1 a2 a3 a4 (by omega) (by omega) (fun f hf => absurd hf (by omega))
theorem kz_tag {post : Int32 → Prop} {N e p : Nat} (hD : kz_DB sc N e a5 a6 a7 a8 a9) (hp : p < e) (H : post (a7 (a5 p).toNatClampNeg)) : wpX_tag post (nI N, sc, nI e, pl, ra, a1, a2, a3, a4, a5, a6, a7, a8, a9, a10) (nI p) := by
  obtain ⟨he, h5, h6, h60, hK, hS⟩ := hD
  obtain ⟨q, hq, e5⟩ := h5 p hp
  unfold wpX_tag
  refine kz_ne hp he (br_t rfl ⟨pk_in p 20 (by omega), ?_⟩)
  rw [nI_clamp (show p < 2 ^ 31 by omega)]
  exact ⟨pk_in q 20 (by omega) e5, H⟩
end
end
section
/-! ===== add ===== -/
theorem kz_nsh {b : Int32} (h : kz_by b) : vp_nar .short b = b := by
  rw [vp_nar_short]
  exact kz_by_sh h
/-- the entries with one more: the new key at place e, its position u -/
theorem kz_DB_add {s t : Int32} {N e u : Nat} {a5 a6 a7 a8 a9 b5 b9 : Nat → Int32} (hN : N ≤ 4) (hD : kz_DB s N e a5 a6 a7 a8 a9) (he : e < 20) (hu : kz_up (kz_J s N a5 a7) e (kz_K s N t) u)
    (h1 : ∀ j, j < u → b5 j = a5 j) (h2 : b5 u = nI e) (h3 : ∀ j, u < j → j ≤ e → b5 j = a5 (j - 1))
    (g1 : ∀ k, k < 64 * e → b9 k = a9 k) (g2 : ∀ i, i < (kz_K s N t).length → (kz_K s N t)[i]? = some (b9 (64 * e + i))) :
    kz_DB s N (e + 1) b5 (upd a6 e 1) (upd a7 e t) (upd a8 e (nI (kz_K s N t).length)) b9 := by
  obtain ⟨_, h5, h6, h60, hK, hS⟩ := hD
  have hue := hu.1
  have lt := kz_K_len (s := s) t hN
  have old : ∀ j, j < e → kz_K s N (upd a7 e t (a5 j).toNatClampNeg) = kz_J s N a5 a7 j := by
    intro j hj
    obtain ⟨q, hq, e5⟩ := h5 j hj
    unfold kz_J
    rw [e5, nI_clamp (by omega), pk_un (by omega)]
  refine ⟨by omega, ?_, ?_, ?_, ?_, ?_⟩
  · intro j hj
    rcases Nat.lt_trichotomy j u with g | g | g
    · obtain ⟨q, hq, e5⟩ := h5 j (by omega)
      exact ⟨q, by omega, by rw [h1 j g, e5]⟩
    · subst g
      exact ⟨e, by omega, h2⟩
    · obtain ⟨q, hq, e5⟩ := h5 (j - 1) (by omega)
      exact ⟨q, by omega, by rw [h3 j g (by omega), e5]⟩
  · intro q hq
    by_cases z : q = e
    · subst z
      rw [pk_us]
      decide
    · rw [pk_un z]
      exact h6 q (by omega)
  · intro q hq hq2
    rw [pk_un (by omega)]
    exact h60 q (by omega) hq2
  · intro q hq
    by_cases z : q = e
    · subst z
      rw [pk_us, pk_us]
      exact ⟨rfl, he, by omega, g2⟩
    · rw [pk_un z, pk_un z]
      obtain ⟨k1, k2, k3, k4⟩ := hK q (by omega)
      refine ⟨k1, k2, k3, fun i hi => ?_⟩
      rw [g1 _ (by omega)]
      exact k4 i hi
  · refine kz_so_add hS hu (fun j hj => ?_) ?_ (fun j hj hj2 => ?_)
    · show kz_K s N (upd a7 e t (b5 j).toNatClampNeg) = _
      rw [h1 j hj]
      exact old j (by omega)
    · show kz_K s N (upd a7 e t (b5 u).toNatClampNeg) = _
      rw [h2, nI_clamp (by omega), pk_us]
    · show kz_K s N (upd a7 e t (b5 j).toNatClampNeg) = _
      rw [h3 j hj hj2]
      exact old (j - 1) (by omega)
section
variable {fi sc en pl ra : Int32} {a1 a2 a3 a4 a5 a6 a7 a8 a9 a10 : Nat → Int32}
theorem kz_a117 {post : Int32 → St2 → Prop} {e u : Nat} (he : e < 20) (hu : u ≤ e)
    (H : ∀ b5 : Nat → Int32, (∀ j, j < u → b5 j = a5 j) → b5 u = nI e → (∀ j, u < j → j ≤ e → b5 j = a5 (j - 1)) → post (nI u) (fi, sc, nI (e + 1), pl, ra, a1, a2, a3, a4, b5, a6, a7, a8, a9, a10)) :
    ∀ (d i m : Nat) (b5 : Nat → Int32), u + d = i → i ≤ e → d < m → (∀ j, j ≤ i → b5 j = a5 j) → (∀ j, i < j → j ≤ e → b5 j = a5 (j - 1)) → wX_add_117 post (nI u) (nI e) fi sc (nI e) pl ra m (nI i) a1 a2 a3 a4 b5 a6 a7 a8 a9 a10 := by
  intro d
  induction d with
  | zero =>
    intro i m b5 hi hie hm h1 h2
    obtain ⟨m, rfl⟩ : ∃ k, m = k + 1 := ⟨m - 1, by omega⟩
    have e0 : i = u := by omega
    subst e0
    refine pk_le i i (fun _ => ⟨pk_in i 20 (by omega), nm_r (e' := upd b5 i (nI e)) (by rw [nI_clamp (by omega)]) (nm_r (nI_1 e) ?_)⟩) (fun z => absurd z (by omega))
    refine H _ (fun j hj => by rw [pk_un (by omega)]; exact h1 j (by omega)) pk_us (fun j hj hj2 => by rw [pk_un (by omega)]; exact h2 j hj hj2)
  | succ d ih =>
    intro i m b5 hi hie hm h1 h2
    obtain ⟨m, rfl⟩ : ∃ k, m = k + 1 := ⟨m - 1, by omega⟩
    obtain ⟨i, rfl⟩ : ∃ k, i = k + 1 := ⟨i - 1, by omega⟩
    refine pk_le (i + 1) u (fun z => absurd z (by omega)) (fun _ => ⟨pk_in i 20 (by omega) (nI_pred i), pk_in (i + 1) 20 (by omega), nm_r (e' := upd b5 (i + 1) (a5 i)) (by rw [nI_pred, nI_clamp (by omega), nI_clamp (by omega), h1 i (by omega)]) (nm_r (pk_m1 i) ?_)⟩)
    refine ih i m _ (by omega) (by omega) (by omega) (fun j hj => by rw [pk_un (by omega)]; exact h1 j (by omega)) (fun j hj hj2 => ?_)
    by_cases z : j = i + 1
    · subst z
      rw [pk_us]
      rfl
    · rw [pk_un z]
      exact h2 j (by omega) hj2
theorem kz_a77 {post : Int32 → St2 → Prop} {e u : Nat} {P : List Int32} (he : e < 20) (hu : u ≤ e) (hp : kz_pr P a10) (bP : ∀ b, b ∈ P → kz_by b) (hP : P.length ≤ 64)
    (H : ∀ b5 b9 : Nat → Int32, (∀ j, j < u → b5 j = a5 j) → b5 u = nI e → (∀ j, u < j → j ≤ e → b5 j = a5 (j - 1)) → (∀ k, k < 64 * e → b9 k = a9 k) → (∀ i, i < P.length → P[i]? = some (b9 (64 * e + i))) → post (nI u) (fi, sc, nI (e + 1), nI P.length, ra, a1, a2, a3, a4, b5, a6, a7, a8, b9, a10)) :
    ∀ (d i m : Nat) (b9 : Nat → Int32), i + d = P.length → d < m → (∀ k, k < 64 * e → b9 k = a9 k) → (∀ j, j < i → P[j]? = some (b9 (64 * e + j))) → wX_add_77 post (nI u) (nI e) fi sc (nI e) (nI P.length) ra m (nI i) a1 a2 a3 a4 a5 a6 a7 a8 b9 a10 := by
  intro d
  induction d with
  | zero =>
    intro i m b9 hi hm h1 h2
    obtain ⟨m, rfl⟩ : ∃ k, m = k + 1 := ⟨m - 1, by omega⟩
    have e0 : i = P.length := by omega
    subst e0
    refine pk_le P.length P.length (fun _ => ⟨e - u + 1, ?_⟩) (fun z => absurd z (by omega))
    exact kz_a117 he hu (fun b5 g1 g2 g3 => H b5 b9 g1 g2 g3 h1 h2) (e - u) e (e - u + 1) a5 (by omega) (by omega) (by omega) (fun _ _ => rfl) (fun j hj hj2 => absurd hj (by omega))
  | succ d ih =>
    intro i m b9 hi hm h1 h2
    obtain ⟨m, rfl⟩ : ∃ k, m = k + 1 := ⟨m - 1, by omega⟩
    have hx := hp i (by omega)
    have bx : kz_by (a10 i) := bP _ (List.mem_of_getElem? hx)
    refine pk_le P.length i (fun z => absurd z (by omega)) (fun _ => ⟨pk_in i 64 (by omega), pk_in (64 * e + i) 1280 (by omega) (kz_ix e i), nm_r (e' := upd b9 (64 * e + i) (a10 i)) (by rw [kz_ix, nI_clamp (by omega), nI_clamp (by omega), kz_nsh bx]) (nm_r (nI_1 i) ?_)⟩)
    refine ih (i + 1) m _ (by omega) (by omega) (fun k hk => by rw [pk_un (by omega)]; exact h1 k hk) (fun j hj => ?_)
    by_cases z : j = i
    · subst z
      rw [pk_us]
      exact hx
    · rw [pk_un (by omega)]
      exact h2 j (by omega)
theorem kz_a29 {post : Int32 → St2 → Prop} {e : Nat} {t at' : Int32} (he : e < 20) (h6 : ∀ q, q < e → ¬ a6 q = 0) (h60 : a6 e = 0) (H : wX_add_50 post t at' (nI e) fi sc en pl ra a1 a2 a3 a4 a5 a6 a7 a8 a9 a10) :
    ∀ (d i m : Nat), i + d = e → d < m → wX_add_29 post t at' fi sc en pl ra a1 a2 a3 a4 a5 a6 a7 a8 a9 a10 m (nI i) := by
  intro d
  induction d with
  | zero =>
    intro i m hi hm
    obtain ⟨m, rfl⟩ : ∃ k, m = k + 1 := ⟨m - 1, by omega⟩
    have e0 : i = e := by omega
    subst e0
    refine pk_le 19 i (fun _ => H) (fun _ => ⟨pk_in i 20 he, ?_⟩)
    rw [nI_clamp (show i < 2 ^ 31 by omega)]
    exact br_t h60 H
  | succ d ih =>
    intro i m hi hm
    obtain ⟨m, rfl⟩ : ∃ k, m = k + 1 := ⟨m - 1, by omega⟩
    refine pk_le 19 i (fun z => absurd z (by omega)) (fun _ => ⟨pk_in i 20 (by omega), ?_⟩)
    rw [nI_clamp (show i < 2 ^ 31 by omega)]
    exact br_f (h6 i (by omega)) (nm_r (nI_1 i) (ih (i + 1) m (by omega) (by omega)))
theorem kz_add {post : Int32 → St2 → Prop} {N e : Nat} {t : Int32} (hN : N ≤ 4) (hD : kz_DB sc N e a5 a6 a7 a8 a9) (hs : kz_sg sc N t a1 a2 a3 a4)
    (H0 : e = 20 → post (-3) (nI N, sc, nI e, pl, ra, a1, a2, a3, a4, a5, a6, a7, a8, a9, a10))
    (H : ∀ (u : Nat) (pl' : Int32) (b5 b6 b7 b8 b9 b10 : Nat → Int32), e < 20 → u ≤ 20 → kz_DB sc N (e + 1) b5 b6 b7 b8 b9 → post (nI u) (nI N, sc, nI (e + 1), pl', ra, a1, a2, a3, a4, b5, b6, b7, b8, b9, b10)) : wpX_add post (nI N, sc, nI e, pl, ra, a1, a2, a3, a4, a5, a6, a7, a8, a9, a10) t := by
  have hD' := hD
  obtain ⟨he, h5, h6, h60, hK, hS⟩ := hD'
  have lt := kz_K_len (s := sc) t hN
  unfold wpX_add
  refine pk_lt e 20 (fun he2 => ?_) (fun z => H0 (by omega))
  refine kz_encode (kz_val_wt sc t) hN hs (fun b10 g => ?_)
  refine kz_bound1 hN hD g (fun u hu => ⟨e + 1, ?_⟩)
  refine kz_a29 he2 h6 (h60 e (Nat.le_refl e) he2) ?_ e 0 (e + 1) (by omega) (by omega)
  have hue := hu.1
  refine ⟨pk_in e 20 he2, nm_r (e' := upd a6 e 1) (by rw [nI_clamp (by omega)]) ⟨pk_in e 20 he2, nm_r (e' := upd a7 e t) (by rw [nI_clamp (by omega)]) ⟨pk_in e 20 he2, nm_r (e' := upd a8 e (nI (kz_K sc N t).length)) (by rw [nI_clamp (by omega)]; rfl) ⟨(kz_K sc N t).length + 1, ?_⟩⟩⟩⟩
  exact kz_a77 (P := kz_K sc N t) he2 hue g (kz_K_by t) (by omega) (fun b5 b9 g1 g2 g3 g4 g5 => H u _ b5 _ _ _ b9 b10 he2 (by omega) (kz_DB_add hN hD he2 hu g1 g2 g3 g4 g5)) (kz_K sc N t).length 0 ((kz_K sc N t).length + 1) a9 (by omega) (by omega) (fun _ _ => rfl) (fun j hj => absurd hj (by omega))
end
end
section
/-! ===== the law's reads ===== -/
section
variable {fi sc en pl ra : Int32} {a1 a2 a3 a4 a5 a6 a7 a8 a9 a10 : Nat → Int32}
theorem kz_r82 {post : Int32 → St2 → Prop} {N e p f q w : Nat} {t : Int32} (hN : N ≤ 4) (he : e ≤ 20) (hp : p < e) (hf : f < N) (hw3 : w ≤ 3) (h5 : a5 p = nI q) (h : kz_rd (kz_rs sc (kz_val sc t) 0 N) q a9)
    (hc : ∀ i, i < 6 → (w ≤ i → kz_ch i (kz_val sc t f) = -5) ∧ (i < w → kz_ch i (kz_val sc t f) = kz_le t f i))
    (H : ∀ ra' : Int32, post 1 (nI N, sc, nI e, pl, ra', a1, a2, a3, a4, a5, a6, a7, a8, a9, a10)) :
    ∀ (d i m : Nat) (ra : Int32), i + d = 6 → d < m → wL_reads_82 post (nI p) (nI f) t (nI w) m (nI i) (nI N) sc (nI e) pl ra a1 a2 a3 a4 a5 a6 a7 a8 a9 a10 := by
  intro d
  induction d with
  | zero =>
    intro i m c0 hi hm
    obtain ⟨m, rfl⟩ : ∃ k, m = k + 1 := ⟨m - 1, by omega⟩
    exact pk_le 6 i (fun _ => H c0) (fun z => absurd z (by omega))
  | succ d ih =>
    intro i m c0 hi hm
    obtain ⟨m, rfl⟩ : ∃ k, m = k + 1 := ⟨m - 1, by omega⟩
    have hci := hc i (by omega)
    refine pk_le 6 i (fun z => absurd z (by omega)) (fun _ => ?_)
    refine kz_charAt hp he hf hN (show i ≤ 5 by omega) h5 h (kz_val_wt sc t) (fun ra' => ?_)
    refine pk_le w i (fun z => ?_) (fun z => ?_)
    · exact br_t (hci.1 z) (nm_r (nI_1 i) (ih (i + 1) m ra' (by omega) (by omega)))
    · refine kz_let ?_
      exact br_t (hci.2 z) (nm_r (nI_1 i) (ih (i + 1) m ra' (by omega) (by omega)))
theorem kz_reads {post : Int32 → St2 → Prop} {N e p f : Nat} (hN : N ≤ 4) (hD : kz_DB sc N e a5 a6 a7 a8 a9) (hp : p < e) (hf : f < N) (H : ∀ ra' : Int32, post 1 (nI N, sc, nI e, pl, ra', a1, a2, a3, a4, a5, a6, a7, a8, a9, a10)) : wpL_reads post (nI N, sc, nI e, pl, ra, a1, a2, a3, a4, a5, a6, a7, a8, a9, a10) (nI p) (nI f) sc (a7 (a5 p).toNatClampNeg) := by
  obtain ⟨he, h5, h6, h60, hK, hS⟩ := hD
  obtain ⟨q, hq, e5⟩ := h5 p hp
  have h : kz_rd (kz_rs sc (kz_val sc (a7 q)) 0 N) q a9 := (hK q hq).2
  rw [e5, nI_clamp (show q < 2 ^ 31 by omega)]
  generalize a7 q = t at h
  have hwt := kz_val_wt sc t
  unfold wpL_reads
  refine kz_isn (fun z => ?_) (fun z => ?_)
  · have hV : kz_val sc t f = none := kz_val_n z
    have fin : ∀ ra' : Int32, ∃ fu, wL_reads_82 post (nI p) (nI f) t 0 fu 0 (nI N) sc (nI e) pl ra' a1 a2 a3 a4 a5 a6 a7 a8 a9 a10 := fun ra' =>
      ⟨7, kz_r82 (w := 0) hN he hp hf (by omega) e5 h (fun i hi => ⟨fun _ => by rw [hV]; rfl, fun g => absurd g (by omega)⟩) H 6 0 7 ra' (by omega) (by omega)⟩
    refine kz_txt (fun z2 => ?_) (fun z2 => ?_) <;> refine kz_nullAt hp he hf hN e5 h hwt (fun ra1 => br_t (by rw [hV]; rfl) ?_) <;> refine kz_intAt hp he hf hN e5 h hwt (fun ra2 => br_f (by decide) ?_) <;> exact br_t (by rw [hV]; rfl) (br_f (by decide) (fin ra2))
  · refine kz_txt (fun z2 => ?_) (fun z2 => ?_)
    · have hV : kz_val sc t f = some (.inr (kz_tl t f)) := kz_val_t z z2
      have hz := (kz_sz_e t f).2
      refine kz_nullAt hp he hf hN e5 h hwt (fun ra1 => br_t (by rw [hV]; rfl) ?_)
      refine kz_intAt hp he hf hN e5 h hwt (fun ra2 => br_t rfl (br_f (by decide) ?_))
      refine br_t (by rw [hV]; rfl) (br_t rfl (br_f (by decide) (kz_siz ⟨7, ?_⟩)))
      refine kz_r82 hN he hp hf hz e5 h (fun i hi => ?_) H 6 0 7 ra2 (by omega) (by omega)
      rw [hV]
      refine ⟨fun g => ?_, fun g => ?_⟩
      · show (kz_tl t f).getD i (-5) = -5
        rw [List.getD_eq_getElem?_getD, List.getElem?_eq_none (by rw [kz_tl_len]; exact g)]
        rfl
      · show (kz_tl t f).getD i (-5) = kz_le t f i
        rw [List.getD_eq_getElem?_getD, kz_tl_get g]
        rfl
    · have hV : kz_val sc t f = some (.inl (kz_nu t f)) := kz_val_i z z2
      refine kz_nullAt hp he hf hN e5 h hwt (fun ra1 => br_t (by rw [hV]; rfl) ?_)
      refine kz_intAt hp he hf hN e5 h hwt (fun ra2 => br_t rfl (br_t rfl ?_))
      refine kz_num (br_t (by rw [hV]; rfl) (br_t rfl (br_t rfl ⟨7, ?_⟩)))
      exact kz_r82 (w := 0) hN he hp hf (by omega) e5 h (fun i hi => ⟨fun _ => by rw [hV]; rfl, fun g => absurd g (by omega)⟩) H 6 0 7 ra2 (by omega) (by omega)
end
end
section
/-! ===== the law ===== -/
section
variable {fi sc en pl ra : Int32} {a1 a2 a3 a4 a5 a6 a7 a8 a9 a10 : Nat → Int32}
theorem kz_l129 {post : Int32 → Prop} {L kc ks : Nat} {xs : Nat → Int32} {J98 : Int32 → Int32 → Int32 → Int32 → Int32 → Int32 → Int32 → Int32 → (Nat → Int32) → (Nat → Int32) → (Nat → Int32) → (Nat → Int32) → (Nat → Int32) → (Nat → Int32) → (Nat → Int32) → (Nat → Int32) → (Nat → Int32) → (Nat → Int32) → Prop} {N e p sm la : Nat} (hN : N ≤ 4) (hD : kz_DB sc N e a5 a6 a7 a8 a9) (hp : p < e)
    (hs : kz_sg sc N (a7 (a5 p).toNatClampNeg) a1 a2 a3 a4) (hI : kz_iv (kz_J sc N a5 a7) e p sm la)
    (H : ∀ (sm' la' : Nat) (pl' ra' : Int32) (b10 : Nat → Int32), kz_iv (kz_J sc N a5 a7) e (p + 1) sm' la' → J98 (nI sm') (nI la') (nI (p + 1)) (nI N) sc (nI e) pl' ra' a1 a2 a3 a4 a5 a6 a7 a8 a9 b10) :
    ∀ (d i m : Nat) (ra : Int32), i + d = N → d < m → wL_law_129 post L xs J98 (nI N) sc (nI e) (nI sm) (nI la) (nI p) (a7 (a5 p).toNatClampNeg) kc ks m (nI i) (nI N) sc (nI e) pl ra a1 a2 a3 a4 a5 a6 a7 a8 a9 a10 := by
  have he := hD.1
  intro d
  induction d with
  | zero =>
    intro i m c0 hi hm
    obtain ⟨m, rfl⟩ : ∃ k, m = k + 1 := ⟨m - 1, by omega⟩
    refine pk_le N i (fun _ => ?_) (fun z => absurd z (by omega))
    refine kz_below hN hD hs (fun b pl1 c10 hb => ?_)
    refine kz_matching hN hD hs (fun b' u pl2 d10 hb' hu => ?_)
    have eb : b' = b := kz_lo_un hb' hb
    subst eb
    obtain ⟨k1, k2, k3, k4, k5, k6, k7⟩ := kz_step hD.2.2.2.2.2 hp hI hb hu
    rw [pk_sub (show b' ≤ u by omega)]
    refine pk_lt p b' (fun z => absurd z (by omega)) (fun _ => pk_lt b' la (fun z => absurd z (by omega)) (fun _ => pk_le 1 (u - b') (fun _ => ?_) (fun z => absurd z (by omega))))
    refine pk_eq b' p (fun z => ?_) (fun z => nm_r (nI_1 p) (H sm b' pl2 c0 d10 (k7 z)))
    have q := k6 z
    refine nm_r (e' := nI u) ?_ (nm_r (nI_1 p) (H u b' pl2 c0 d10 q.2))
    rw [nI_add, show sm + (u - b') = u by omega]
  | succ d ih =>
    intro i m c0 hi hm
    obtain ⟨m, rfl⟩ : ∃ k, m = k + 1 := ⟨m - 1, by omega⟩
    refine pk_le N i (fun z => absurd z (by omega)) (fun _ => ?_)
    refine kz_reads hN hD hp (show i < N by omega) (fun ra' => br_f (by decide) (nm_r (nI_1 i) ?_))
    exact ih (i + 1) m ra' (by omega) (by omega)
theorem kz_l98 {post : Int32 → Prop} {L kc ks : Nat} {xs : Nat → Int32} {N e : Nat} (hpost : post 1) (hN : N ≤ 4) (hD : kz_DB sc N e a5 a6 a7 a8 a9) :
    ∀ (d p m sm la : Nat) (pl ra : Int32) (a1 a2 a3 a4 a10 : Nat → Int32), p + d = e → d < m → kz_iv (kz_J sc N a5 a7) e p sm la → wL_law_98 post L xs (nI N) sc (nI e) kc ks m (nI sm) (nI la) (nI p) (nI N) sc (nI e) pl ra a1 a2 a3 a4 a5 a6 a7 a8 a9 a10 := by
  have he := hD.1
  intro d
  induction d with
  | zero =>
    intro p m sm la c0 c1 d1 d2 d3 d4 d10 hp hm hI
    obtain ⟨m, rfl⟩ : ∃ k, m = k + 1 := ⟨m - 1, by omega⟩
    have ep : p = e := by omega
    subst ep
    have es := kz_fin hI
    subst es
    exact pk_le sm sm (fun _ => br_t rfl (br_t rfl hpost)) (fun z => absurd z (by omega))
  | succ d ih =>
    intro p m sm la c0 c1 d1 d2 d3 d4 d10 hp hm hI
    obtain ⟨m, rfl⟩ : ∃ k, m = k + 1 := ⟨m - 1, by omega⟩
    refine pk_le e p (fun z => absurd z (by omega)) (fun _ => ?_)
    refine kz_tag hD (show p < e by omega) ?_
    refine kz_load hN hD (show p < e by omega) (fun ra' b1 b2 b3 b4 hs => br_t rfl ⟨N + 1, ?_⟩)
    exact kz_l129 hN hD (by omega) hs hI (fun sm' la' pl' ra2 b10 hI' => ih (p + 1) m sm' la' pl' ra2 b1 b2 b3 b4 b10 (by omega) (by omega) hI') N 0 (N + 1) ra' (by omega) (by omega)
theorem kz_l32 {post : Int32 → Prop} {L kc ks : Nat} {xs : Nat → Int32} {N : Nat} (hpost : post 1) (hN : N ≤ 4) (hL : L ≤ 260) :
    ∀ (d k m e : Nat) (pl ra : Int32) (a1 a2 a3 a4 a5 a6 a7 a8 a9 a10 : Nat → Int32), k + d = 26 → d < m → kz_DB sc N e a5 a6 a7 a8 a9 → wL_law_32 post L xs (nI N) sc kc ks m (nI e) (nI k) (nI N) sc (nI e) pl ra a1 a2 a3 a4 a5 a6 a7 a8 a9 a10 := by
  intro d
  induction d with
  | zero =>
    intro k m e c0 c1 d1 d2 d3 d4 d5 d6 d7 d8 d9 d10 hk hm hD
    obtain ⟨m, rfl⟩ : ∃ k, m = k + 1 := ⟨m - 1, by omega⟩
    have fin := kz_l98 (L := L) (kc := kc) (ks := ks) (xs := xs) hpost hN hD e 0 (e + 1) 0 0 c0 c1 d1 d2 d3 d4 d10 (by omega) (by omega) (Or.inl ⟨rfl, rfl, rfl⟩)
    exact pk_le L k (fun _ => ⟨e + 1, fin⟩) (fun _ => pk_le 26 k (fun _ => ⟨e + 1, fin⟩) (fun z => absurd z (by omega)))
  | succ d ih =>
    intro k m e c0 c1 d1 d2 d3 d4 d5 d6 d7 d8 d9 d10 hk hm hD
    obtain ⟨m, rfl⟩ : ∃ k, m = k + 1 := ⟨m - 1, by omega⟩
    have fin := kz_l98 (L := L) (kc := kc) (ks := ks) (xs := xs) hpost hN hD e 0 (e + 1) 0 0 c0 c1 d1 d2 d3 d4 d10 (by omega) (by omega) (Or.inl ⟨rfl, rfl, rfl⟩)
    refine pk_le L k (fun _ => ⟨e + 1, fin⟩) (fun hk2 => pk_le 26 k (fun _ => ⟨e + 1, fin⟩) (fun _ => ⟨pk_in k L hk2, nm_e ?_⟩))
    refine kz_stage hN (fun b1 b2 b3 b4 hs => ?_)
    refine kz_add hN hD hs (fun ee => ?_) (fun u pl' b5 b6 b7 b8 b9 b10 he2 hu hD' => ?_)
    · exact br_t (by decide) (nm_r (nI_1 k) (ih (k + 1) m e _ _ _ _ _ _ _ _ _ _ _ _ (by omega) (by omega) hD))
    · exact br_f (nI_pos (by omega)) (nm_r (nI_1 e) (nm_r (nI_1 k) (ih (k + 1) m (e + 1) _ _ _ _ _ _ _ _ _ _ _ _ (by omega) (by omega) hD')))
end
theorem kz_cell {post : Int32 → Prop} {L k : Nat} {xs : Nat → Int32} (hk : k < 26) (hL : L ≤ 260) (H : ∀ r, post r) : wpL_cell post L xs () (nI k) :=
  pk_le L k (fun _ => H 0) (fun z => ⟨pk_in k L z, H _⟩)
theorem kz_i111 {post : St2 → Prop} {mc ms kc ks : Nat} {fi sc en pl ra : Int32} {a2 a3 a4 a5 a6 a7 a8 a9 a10 : Nat → Int32} (H : ∀ b1 : Nat → Int32, post (fi, sc, en, pl, ra, b1, a2, a3, a4, a5, a6, a7, a8, a9, a10)) : ∀ (d i m : Nat) (a1 : Nat → Int32), i + d = 4 → d < m → wX_init_111 post mc ms kc ks fi sc en pl ra m (nI i) a1 a2 a3 a4 a5 a6 a7 a8 a9 a10 := by
  intro d
  induction d with
  | zero =>
    intro i m b1 hi hm
    obtain ⟨m, rfl⟩ : ∃ k, m = k + 1 := ⟨m - 1, by omega⟩
    exact pk_le 4 i (fun _ => H b1) (fun z => absurd z (by omega))
  | succ d ih =>
    intro i m b1 hi hm
    obtain ⟨m, rfl⟩ : ∃ k, m = k + 1 := ⟨m - 1, by omega⟩
    exact pk_le 4 i (fun z => absurd z (by omega)) (fun _ => ⟨pk_in i 4 (by omega), nm_e (nm_r (nI_1 i) (ih (i + 1) m _ (by omega) (by omega)))⟩)
theorem kz_init {post : St2 → Prop} {sc : Int32} {N : Nat} (h1 : 1 ≤ N) (hN : N ≤ 4) (H : ∀ b1 : Nat → Int32, post (nI N, sc, 0, 0, 0, b1, fun _ => 0, fun _ => 0, fun _ => 0, fun _ => 0, fun _ => 0, fun _ => 0, fun _ => 0, fun _ => 0, fun _ => 0)) : wpX_init post 10 1460 (0, 0, 0, 0, 0) (nI N) sc := by
  refine ⟨by omega, by omega, by omega, by omega, by omega, by omega, by omega, by omega, by omega, by omega, by omega, by omega, by omega, by omega, by omega, by omega, by omega, by omega, by omega, by omega, ?_⟩
  refine br_t (nI_le (a := 1) h1 (by omega)) (br_t (nI_le (b := 4) hN (by omega)) ⟨5, ?_⟩)
  exact kz_i111 H 4 0 5 _ (by omega) (by omega)
theorem kz_DB_0 (s : Int32) (N : Nat) : kz_DB s N 0 (fun _ => 0) (fun _ => 0) (fun _ => 0) (fun _ => 0) (fun _ => 0) :=
  ⟨by omega, fun j hj => absurd hj (by omega), fun q hq => absurd hq (by omega), fun _ _ _ => rfl, fun q hq => absurd hq (by omega), fun i j _ hj => absurd hj (by omega)⟩
theorem i_vc (xs : Nat → Int32) (L : Nat) (hL : L ≤ 260) : wpL_law (fun r => r = 1) L xs := by
  unfold wpL_law
  refine kz_cell (k := 0) (by omega) hL (fun r => ?_)
  obtain ⟨j, hj, ej⟩ := pk_andE r (m := 3) 2 rfl
  have hj' : j < 4 := hj
  refine nm_r (e' := nI (1 + j)) (by rw [ej]; exact nI_add 1 j) ?_
  refine kz_cell (k := 1) (by omega) hL (fun sc => ⟨10, 1460, by omega, by omega, ?_⟩)
  refine kz_init (by omega) (by omega) (fun b1 => ⟨25, ?_⟩)
  exact kz_l32 (post := fun r => r = 1) rfl (by omega) hL 24 2 25 0 0 0 b1 _ _ _ _ _ _ _ _ _ (by omega) (by omega) (kz_DB_0 sc (1 + j))
end
