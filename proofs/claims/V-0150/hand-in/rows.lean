section
theorem pk_us {f : Nat → Int32} {k : Nat} {x : Int32} : upd f k x k = x := if_pos rfl
theorem pk_un {f : Nat → Int32} {k j : Nat} {x : Int32} (h : j ≠ k) : upd f k x j = f j := if_neg h
theorem pk_sub {a b : Nat} (h : b ≤ a) : nI a - nI b = nI (a - b) := by
  obtain ⟨c, rfl⟩ : ∃ c, a = c + b := ⟨a - b, by omega⟩
  rw [← nI_add, Int32.add_sub_cancel, Nat.add_sub_cancel]
theorem pk_m1 (n : Nat) : nI (n + 1) + (-1) = nI n := by
  rw [← nI_1, Int32.add_assoc, show (1 : Int32) + (-1) = 0 from rfl, Int32.add_zero]
theorem pk_mul (a b : Nat) : nI a * nI b = nI (a * b) := (Int32.ofNat_mul a b).symm
theorem pk_ix (x : Int32) {n : Nat} (hn : n < 2 ^ 31) : x < 0 ∨ nI n ≤ x ∨ ∃ j : Nat, j < n ∧ x = nI j := by
  by_cases h : x < 0
  · exact Or.inl h
  · obtain ⟨j, hj, rfl⟩ := nI_of h
    by_cases h2 : j < n
    · exact Or.inr (Or.inr ⟨j, h2, rfl⟩)
    · exact Or.inr (Or.inl (nI_le (by omega) hj))
theorem pk_le {x y : Int32} {A B : Prop} (a b : Nat) (f : a ≤ b → A) (g : b < a → B) (hx : x = nI a := by rfl) (hy : y = nI b := by rfl) (ha : a < 2 ^ 31 := by omega) (hb : b < 2 ^ 31 := by omega) : (x ≤ y → A) ∧ (¬ x ≤ y → B) := by
  subst hx hy
  rw [nI_leI ha hb]
  exact ⟨f, fun z => g (by omega)⟩
theorem pk_lt {x y : Int32} {A B : Prop} (a b : Nat) (f : a < b → A) (g : b ≤ a → B) (hx : x = nI a := by rfl) (hy : y = nI b := by rfl) (ha : a < 2 ^ 31 := by omega) (hb : b < 2 ^ 31 := by omega) : (x < y → A) ∧ (¬ x < y → B) := by
  subst hx hy
  rw [nI_ltI ha hb]
  exact ⟨f, fun z => g (by omega)⟩
theorem pk_eq {x y : Int32} {A B : Prop} (a b : Nat) (f : a = b → A) (g : a ≠ b → B) (hx : x = nI a := by rfl) (hy : y = nI b := by rfl) (ha : a < 2 ^ 31 := by omega) (hb : b < 2 ^ 31 := by omega) : (x = y → A) ∧ (¬ x = y → B) := by
  subst hx hy
  rw [nI_eq ha hb]
  exact ⟨f, g⟩
theorem pk_in {x : Int32} (n N : Nat) (h : n < N) (hx : x = nI n := by rfl) (hN : N < 2 ^ 31 := by omega) : vp_in x N := by
  subst hx
  exact vp_in_nI h hN
theorem pk_cl {x : Int32} (n : Nat) (hx : x = nI n := by rfl) (h : n < 2 ^ 31 := by omega) : x.toNatClampNeg = n := by
  subst hx
  exact nI_clamp h
theorem pk_tn {n : Nat} (h : n < 2 ^ 32) : (nI n).toBitVec.toNat = n := Nat.mod_eq_of_lt h
theorem pk_least (P : Nat → Prop) (h : ∃ k, P k) : ∃ k, P k ∧ ∀ j, j < k → ¬ P j := by
  obtain ⟨k, hk⟩ := h
  induction k using Nat.strongRecOn with
  | ind k ih =>
    by_cases e : ∃ j, j < k ∧ P j
    · obtain ⟨j, hj, pj⟩ := e
      exact ih j hj pj
    · exact ⟨k, hk, fun j hj pj => e ⟨j, hj, pj⟩⟩
def bt (x : Int32) (i : Nat) : Bool := x.toBitVec.getLsbD i
theorem b_ext {x y : Int32} (h : ∀ i, i < 32 → bt x i = bt y i) : x = y := Int32.toBitVec_inj.mp (BitVec.eq_of_getLsbD_eq (fun i hi => h i hi))
theorem b_or (x y : Int32) (i : Nat) : bt (x ||| y) i = (bt x i || bt y i) := by unfold bt; rw [Int32.toBitVec_or, BitVec.getLsbD_or]
theorem b_and (x y : Int32) (i : Nat) : bt (x &&& y) i = (bt x i && bt y i) := by unfold bt; rw [Int32.toBitVec_and, BitVec.getLsbD_and]
theorem b_xor (x y : Int32) (i : Nat) : bt (x ^^^ y) i = (bt x i ^^ bt y i) := by unfold bt; rw [Int32.toBitVec_xor, BitVec.getLsbD_xor]
theorem b_big {x : Int32} {i : Nat} (h : 32 ≤ i) : bt x i = false := BitVec.getLsbD_of_ge _ _ h
theorem b_255 (i : Nat) : bt 255 i = decide (i < 8) := by
  rcases Nat.lt_or_ge i 32 with h | h
  · exact (by decide +kernel : ∀ i, i < 32 → bt 255 i = decide (i < 8)) i h
  · rw [b_big h, decide_eq_false (by omega)]
theorem b_65535 (i : Nat) : bt 65535 i = decide (i < 16) := by
  rcases Nat.lt_or_ge i 32 with h | h
  · exact (by decide +kernel : ∀ i, i < 32 → bt 65535 i = decide (i < 16)) i h
  · rw [b_big h, decide_eq_false (by omega)]
theorem b_m1 : ∀ i, i < 32 → bt (-1) i = true := by decide +kernel
theorem b_0 (i : Nat) : bt 0 i = false := BitVec.getLsbD_zero
theorem s_l : ∀ n, n < 32 → ((nI n &&& 31).toBitVec.smod 32).toNat = n := by decide +kernel
theorem s_u : ∀ n, n < 32 → (((nI n).toUInt32 &&& Int32.toUInt32 31).toBitVec % 32).toNat = n := by decide +kernel
theorem b_shl (n : Nat) (hn : n < 32) (x : Int32) {i : Nat} (hi : i < 32) : bt (x <<< (nI n &&& 31)) i = (decide (n ≤ i) && bt x (i - n)) := by
  unfold bt
  rw [Int32.toBitVec_shiftLeft]
  show (x.toBitVec <<< ((nI n &&& 31).toBitVec.smod 32).toNat).getLsbD i = _
  rw [s_l n hn, BitVec.getLsbD_shiftLeft]
  rcases Nat.lt_or_ge i n with h | h
  · simp [h, Nat.not_le.mpr h]
  · simp [hi, h, Nat.not_lt.mpr h]
theorem b_ushr (n : Nat) (hn : n < 32) (x : Int32) (i : Nat) : bt ((x.toUInt32 >>> ((nI n).toUInt32 &&& Int32.toUInt32 31)).toInt32) i = bt x (n + i) := by
  show (x.toUInt32 >>> ((nI n).toUInt32 &&& Int32.toUInt32 31)).toBitVec.getLsbD i = x.toUInt32.toBitVec.getLsbD (n + i)
  rw [UInt32.toBitVec_shiftRight]
  show (x.toUInt32.toBitVec >>> (((nI n).toUInt32 &&& Int32.toUInt32 31).toBitVec % 32).toNat).getLsbD i = _
  rw [s_u n hn, BitVec.getLsbD_ushiftRight]
theorem b_sshr (n : Nat) (hn : n < 32) (x : Int32) {i : Nat} (hi : i < 32) : bt (x >>> (nI n &&& 31)) i = if n + i < 32 then bt x (n + i) else bt x 31 := by
  unfold bt
  rw [Int32.toBitVec_shiftRight]
  show (x.toBitVec.sshiftRight ((nI n &&& 31).toBitVec.smod 32).toNat).getLsbD i = _
  rw [s_l n hn, BitVec.getLsbD_sshiftRight, BitVec.msb_eq_getLsbD_last]
  simp [hi]
theorem b_shl8 (x : Int32) {i : Nat} (hi : i < 32) : bt (x <<< ((8 : Int32) &&& 31)) i = (decide (8 ≤ i) && bt x (i - 8)) := b_shl 8 (by omega) x hi
theorem b_shl16 (x : Int32) {i : Nat} (hi : i < 32) : bt (x <<< ((16 : Int32) &&& 31)) i = (decide (16 ≤ i) && bt x (i - 16)) := b_shl 16 (by omega) x hi
theorem b_shl24 (x : Int32) {i : Nat} (hi : i < 32) : bt (x <<< ((24 : Int32) &&& 31)) i = (decide (24 ≤ i) && bt x (i - 24)) := b_shl 24 (by omega) x hi
theorem b_sshr8 (x : Int32) {i : Nat} (hi : i < 32) : bt (x >>> ((8 : Int32) &&& 31)) i = if 8 + i < 32 then bt x (8 + i) else bt x 31 := b_sshr 8 (by omega) x hi
end
section
/-! numbers -/
theorem gk_ne1 {a : Nat} (h : a < 2 ^ 31) : ¬ nI a = -1 := by
  intro e
  have h2 := nI_pos (n := a) h
  rw [e] at h2
  exact h2 (by decide)
theorem gk_m1lt : (-1 : Int32) < 0 := by decide
theorem gk_0nle : ¬ (0 : Int32) ≤ -1 := by decide
theorem gk_inj {a b : Nat} (h : nI a = nI b) (ha : a < 2 ^ 31) (hb : b < 2 ^ 31) : a = b := (nI_eq ha hb).mp h
theorem gk_vb0 : vp_nar .boolean 0 = 0 := by decide
theorem gk_vb1 : vp_nar .boolean 1 = 1 := by decide
theorem gk_nlt {a b : Int32} : ¬ a < b ↔ b ≤ a := by rw [Int32.lt_iff_toInt_lt, Int32.le_iff_toInt_le]; omega
theorem gk_nle {a b : Int32} : ¬ a ≤ b ↔ b < a := by rw [Int32.lt_iff_toInt_lt, Int32.le_iff_toInt_le]; omega
theorem gk_ltt {a b c : Int32} (h : a < b) (g : b < c) : a < c := by rw [Int32.lt_iff_toInt_lt] at *; omega
theorem gk_let {a b c : Int32} (h : a ≤ b) (g : b ≤ c) : a ≤ c := by rw [Int32.le_iff_toInt_le] at *; omega
theorem gk_lelt {a b c : Int32} (h : a ≤ b) (g : b < c) : a < c := by rw [Int32.lt_iff_toInt_lt] at *; rw [Int32.le_iff_toInt_le] at h; omega
theorem gk_ltle {a b c : Int32} (h : a < b) (g : b ≤ c) : a < c := by rw [Int32.lt_iff_toInt_lt] at *; rw [Int32.le_iff_toInt_le] at g; omega
theorem gk_ltne {a b : Int32} (h : a < b) : a ≠ b := by rintro rfl; rw [Int32.lt_iff_toInt_lt] at h; omega
theorem gk_leas {a b : Int32} (h : a ≤ b) (g : b ≤ a) : a = b := by rw [Int32.le_iff_toInt_le] at *; exact Int32.toInt_inj.mp (by omega)
theorem gk_lerf (a : Int32) : a ≤ a := by rw [Int32.le_iff_toInt_le]; omega
/-- an index: -1 or a number below n -/
def gk_ix (n : Nat) (x : Int32) : Prop := x = -1 ∨ ∃ j, j < n ∧ x = nI j
/-! chains -/
def gk_hd (e : Int32) : List Nat → Int32
  | [] => e
  | s :: _ => nI s
def gk_sg (nx : Nat → Int32) (e : Int32) : List Nat → Prop
  | [] => True
  | s :: l => nx s = gk_hd e l ∧ gk_sg nx e l
theorem gk_hd_app (e : Int32) (l1 l2 : List Nat) : gk_hd e (l1 ++ l2) = gk_hd (gk_hd e l2) l1 := by cases l1 <;> rfl
theorem gk_sg_app {nx : Nat → Int32} {e : Int32} {l1 l2 : List Nat} : gk_sg nx e (l1 ++ l2) ↔ gk_sg nx (gk_hd e l2) l1 ∧ gk_sg nx e l2 := by
  induction l1 with
  | nil => simp [gk_sg]
  | cons s l ih => simp only [List.cons_append, gk_sg, gk_hd_app, ih, and_assoc]
theorem gk_sg_c {nx nx' : Nat → Int32} {e : Int32} {l : List Nat} (h : ∀ s, s ∈ l → nx' s = nx s) (H : gk_sg nx e l) : gk_sg nx' e l := by
  induction l with
  | nil => trivial
  | cons s l ih => exact ⟨(h s (by simp)).trans H.1, ih (fun t ht => h t (by simp [ht])) H.2⟩
theorem gk_sg_u {nx : Nat → Int32} {e v : Int32} {l : List Nat} {t : Nat} (h : t ∉ l) (H : gk_sg nx e l) : gk_sg (upd nx t v) e l :=
  gk_sg_c (fun s hs => pk_un (fun z => h (z ▸ hs))) H
theorem gk_snoc : ∀ l : List Nat, l = [] ∨ ∃ l' t, l = l' ++ [t]
  | [] => Or.inl rfl
  | s :: l => match gk_snoc l with
    | Or.inl h => Or.inr ⟨[], s, by rw [h]; rfl⟩
    | Or.inr ⟨l', t, h⟩ => Or.inr ⟨s :: l', t, by rw [h]; rfl⟩
def gk_la (l : List Nat) : Int32 := match l.getLast? with
  | none => -1
  | some s => nI s
theorem gk_la_nil : gk_la [] = -1 := rfl
theorem gk_la_c (l : List Nat) (s : Nat) : gk_la (l ++ [s]) = nI s := by simp [gk_la]
theorem gk_la_cons (s t : Nat) (l : List Nat) : gk_la (s :: t :: l) = gk_la (t :: l) := by simp [gk_la]
theorem gk_la_1 (s : Nat) : gk_la [s] = nI s := rfl
theorem gk_la_m1 {l : List Nat} {n : Nat} (hn : n < 2 ^ 31) (h : ∀ s, s ∈ l → s < n) : gk_la l = -1 ↔ l = [] := by
  rcases gk_snoc l with rfl | ⟨l', t, rfl⟩
  · simp [gk_la]
  · rw [gk_la_c]
    have ht := h t (by simp)
    constructor
    · intro e; exact absurd e (gk_ne1 (by omega))
    · intro e; simp at e
theorem gk_hd_m1 {l : List Nat} {n : Nat} (hn : n < 2 ^ 31) (h : ∀ s, s ∈ l → s < n) : gk_hd (-1) l = -1 ↔ l = [] := by
  cases l with
  | nil => simp [gk_hd]
  | cons s l =>
    have hs := h s (by simp)
    constructor
    · intro e; exact absurd e (gk_ne1 (by omega))
    · intro e; simp at e
theorem gk_hd_ix {l : List Nat} {n : Nat} (h : ∀ s, s ∈ l → s < n) : gk_ix n (gk_hd (-1) l) := by
  cases l with
  | nil => exact Or.inl rfl
  | cons s l => exact Or.inr ⟨s, h s (by simp), rfl⟩
/-- the last of a segment gets another follower -/
theorem gk_sg_set {nx : Nat → Int32} {e v : Int32} {l : List Nat} {t : Nat} (hn : t ∉ l) (H : gk_sg nx e (l ++ [t])) : gk_sg (upd nx t v) v (l ++ [t]) := by
  rw [gk_sg_app] at *
  exact ⟨gk_sg_u hn H.1, pk_us, trivial⟩
/-! the records -/
abbrev gk_Rec : Type := Int32 × Int32 × Int32 × Int32 × Int32 × Int32
def gk_d (a b c d e f : Nat → Int32) (s : Nat) : gk_Rec := (a s, b s, c s, d s, e s, f s)
def gk_f (a b c d e f : Nat → Int32) (s : Nat) : Option gk_Rec := if a s = 0 then none else some (gk_d a b c d e f s)
def gk_yl (f : Nat → Option gk_Rec) (n : Nat) : List gk_Rec := (List.range n).filterMap f
theorem gk_yl_s (f : Nat → Option gk_Rec) (n : Nat) : gk_yl f (n + 1) = gk_yl f n ++ (f n).toList := by
  unfold gk_yl
  rw [List.range_succ, List.filterMap_append]
  cases h : f n <;> simp [List.filterMap_cons, h]
theorem gk_yl_c {f g : Nat → Option gk_Rec} {n : Nat} (h : ∀ i, i < n → f i = g i) : gk_yl f n = gk_yl g n := by
  induction n with
  | zero => rfl
  | succ n ih => rw [gk_yl_s, gk_yl_s, ih (fun i hi => h i (by omega)), h n (by omega)]
theorem gk_yl_ins {f g : Nat → Option gk_Rec} {n i : Nat} {r : gk_Rec} (hi : i < n) (hf : f i = none) (hg : g i = some r) (h : ∀ j, j ≠ i → f j = g j) : (gk_yl g n).Perm (r :: gk_yl f n) := by
  induction n with
  | zero => omega
  | succ n ih =>
    rw [gk_yl_s, gk_yl_s]
    by_cases e : i = n
    · subst e
      rw [gk_yl_c (f := g) (g := f) (fun j hj => (h j (by omega)).symm), hf, hg]
      show (gk_yl f i ++ [r]).Perm (r :: (gk_yl f i ++ []))
      rw [List.append_nil]
      exact List.perm_append_comm
    · rw [h n (fun z => e z.symm)]
      exact (ih (by omega)).append_right _
theorem gk_yl_map {f g : Nat → Option gk_Rec} {n : Nat} {q : gk_Rec → gk_Rec} (h : ∀ i, i < n → g i = (f i).map q) : gk_yl g n = (gk_yl f n).map q := by
  induction n with
  | zero => rfl
  | succ n ih =>
    rw [gk_yl_s, gk_yl_s, List.map_append, ih (fun i hi => h i (by omega)), h n (by omega)]
    cases f n <;> rfl
theorem gk_yl_mem {f : Nat → Option gk_Rec} {n : Nat} {r : gk_Rec} : r ∈ gk_yl f n ↔ ∃ i, i < n ∧ f i = some r := by
  simp [gk_yl, List.mem_filterMap, List.mem_range]
theorem gk_yl_ct (f : Nat → Option gk_Rec) (q : gk_Rec → Bool) (n : Nat) : (gk_yl f (n + 1)).countP q = (gk_yl f n).countP q + (match f n with | none => 0 | some r => if q r then 1 else 0) := by
  rw [gk_yl_s, List.countP_append]
  cases f n with
  | none => rfl
  | some r => simp [Option.toList, List.countP_cons]
theorem gk_yl_le (f : Nat → Option gk_Rec) (q : gk_Rec → Bool) (n : Nat) : (gk_yl f n).countP q ≤ n := by
  induction n with
  | zero => exact Nat.le_refl 0
  | succ n ih =>
    rw [gk_yl_ct]
    cases f n with
    | none => dsimp only; omega
    | some r => dsimp only; split <;> omega
def gk_lt (a b : gk_Rec) : Prop := a.1 < b.1 ∧ a.2.2.2.2.2 ≤ b.2.2.2.2.2
theorem gk_uniq {L : List gk_Rec} (h : L.Pairwise gk_lt) {r r' : gk_Rec} (hr : r ∈ L) (hr' : r' ∈ L) (e : r.1 = r'.1) : r = r' := by
  induction L with
  | nil => simp at hr
  | cons x L ih =>
    rw [List.pairwise_cons] at h
    rcases List.mem_cons.mp hr with h1 | h1 <;> rcases List.mem_cons.mp hr' with h2 | h2
    · rw [h1, h2]
    · rw [h1] at e; exact absurd e (gk_ltne (h.1 _ h2).1)
    · rw [h2] at e; exact absurd e.symm (gk_ltne (h.1 _ h1).1)
    · exact ih h.2 h1 h2
def gk_ow (p : Nat) (r : gk_Rec) : Bool := decide (r.2.1 = nI p)
theorem gk_ow_t {p : Nat} {r : gk_Rec} (h : r.2.1 = nI p) : gk_ow p r = true := decide_eq_true h
theorem gk_ow_f {p : Nat} {r : gk_Rec} (h : ¬ r.2.1 = nI p) : gk_ow p r = false := decide_eq_false h
theorem gk_ow_i {p : Nat} {r : gk_Rec} : gk_ow p r = true ↔ r.2.1 = nI p := decide_eq_true_iff
/-- the list of a processor: slots L -/
def gk_L0 (R : Nat) (RL : List gk_Rec) (d : Nat → gk_Rec) (nx sot : Nat → Int32) (fr la oc : Int32) (p : Nat) (L : List Nat) : Prop :=
  L.map d = RL.filter (gk_ow p) ∧ (∀ s, s ∈ L → s < R) ∧ gk_sg nx (-1) L ∧ fr = gk_hd (-1) L ∧ la = gk_la L ∧ oc = nI L.length
  ∧ (∀ s, s ∈ L → sot (d s).1.toNatClampNeg = nI (s + 1))
/-- ready slots A, waiting slots B -/
def gk_QL (R : Nat) (RL : List gk_Rec) (d : Nat → gk_Rec) (nx sot : Nat → Int32) (sn fr fw la oc rc : Int32) (p : Nat) (A B : List Nat) : Prop :=
  gk_L0 R RL d nx sot fr la oc p (A ++ B) ∧ fw = gk_hd (-1) B ∧ rc = nI A.length ∧ (∀ s, s ∈ A → (d s).2.2.2.2.2 ≤ sn) ∧ (∀ s, s ∈ B → sn < (d s).2.2.2.2.2)
section
variable {R : Nat} {RL RL' : List gk_Rec} {d d' : Nat → gk_Rec} {nx nx' sot sot' : Nat → Int32} {sn fr fw la oc rc : Int32} {p : Nat} {A B L : List Nat}
theorem gk_L0_frame (H : gk_L0 R RL d nx sot fr la oc p L) (hd : ∀ s, s ∈ L → d' s = d s) (hn : ∀ s, s ∈ L → nx' s = nx s)
    (hs : ∀ s, s ∈ L → sot' (d s).1.toNatClampNeg = sot (d s).1.toNatClampNeg) (hf : RL'.filter (gk_ow p) = RL.filter (gk_ow p)) :
    gk_L0 R RL' d' nx' sot' fr la oc p L := by
  obtain ⟨h1, h2, h3, h4, h5, h6, h7⟩ := H
  refine ⟨?_, h2, gk_sg_c hn h3, h4, h5, h6, ?_⟩
  · rw [hf, ← h1]; exact List.map_congr_left hd
  · intro s m; rw [hd s m, hs s m]; exact h7 s m
theorem gk_QL_frame (H : gk_QL R RL d nx sot sn fr fw la oc rc p A B) (hd : ∀ s, s ∈ A ++ B → d' s = d s) (hn : ∀ s, s ∈ A ++ B → nx' s = nx s)
    (hs : ∀ s, s ∈ A ++ B → sot' (d s).1.toNatClampNeg = sot (d s).1.toNatClampNeg) (hf : RL'.filter (gk_ow p) = RL.filter (gk_ow p)) :
    gk_QL R RL' d' nx' sot' sn fr fw la oc rc p A B := by
  obtain ⟨h1, h2, h3, h4, h5⟩ := H
  refine ⟨gk_L0_frame h1 hd hn hs hf, h2, h3, ?_, ?_⟩
  · intro s hs; rw [hd s (by simp [hs])]; exact h4 s hs
  · intro s hs; rw [hd s (by simp [hs])]; exact h5 s hs
theorem gk_L0_mem (H : gk_L0 R RL d nx sot fr la oc p L) {s : Nat} (hs : s ∈ L) : d s ∈ RL ∧ (d s).2.1 = nI p := by
  have h : d s ∈ RL.filter (gk_ow p) := by rw [← H.1]; exact List.mem_map_of_mem hs
  rw [List.mem_filter] at h
  exact ⟨h.1, gk_ow_i.mp h.2⟩
theorem gk_nodup_of {l : List Nat} (h : (l.map d).Pairwise gk_lt) : l.Nodup := by
  rw [List.pairwise_map] at h
  exact h.imp (fun {a b} hab => fun e => gk_ltne hab.1 (by rw [e]))
theorem gk_L0_nodup (hp : RL.Pairwise gk_lt) (H : gk_L0 R RL d nx sot fr la oc p L) : L.Nodup :=
  gk_nodup_of (d := d) (by rw [H.1]; exact hp.filter _)
theorem gk_L0_len (H : gk_L0 R RL d nx sot fr la oc p L) : L.length ≤ RL.length := by
  have h := congrArg List.length H.1
  rw [List.length_map] at h
  rw [h]
  exact List.length_filter_le _ _
theorem gk_L0_own (H : gk_L0 R RL d nx sot fr la oc p L) : RL.countP (gk_ow p) = L.length := by
  rw [List.countP_eq_length_filter, ← H.1, List.length_map]
/-- how many of p's records are ready -/
theorem gk_QL_rdy (H : gk_QL R RL d nx sot sn fr fw la oc rc p A B) : RL.countP (fun r => gk_ow p r && decide (r.2.2.2.2.2 ≤ sn)) = A.length := by
  obtain ⟨h1, h2, h3, h9, h10⟩ := H
  have e : RL.countP (fun r => gk_ow p r && decide (r.2.2.2.2.2 ≤ sn)) = ((A ++ B).map d).countP (fun r => decide (r.2.2.2.2.2 ≤ sn)) := by
    rw [h1.1, List.countP_filter]
    congr 1; funext r; exact Bool.and_comm _ _
  rw [e, List.countP_map, List.countP_append]
  have ea : A.countP ((fun r => decide (r.2.2.2.2.2 ≤ sn)) ∘ d) = A.length := by
    rw [List.countP_eq_length]; intro s hs; exact decide_eq_true (h9 s hs)
  have eb : B.countP ((fun r => decide (r.2.2.2.2.2 ≤ sn)) ∘ d) = 0 := by
    rw [List.countP_eq_zero]; intro s hs
    have := h10 s hs
    simp only [Function.comp, decide_eq_true_iff]
    exact gk_nle.mpr this
  omega
end
end
section
/-! the pieces of the relation -/
def gk_C (P : Nat) (W : Nat) (N : Nat) (R : Nat) (G : Nat) (a_groupOf : Nat → Int32) (a_groupBit : Nat → Int32) (a_groupStart : Nat → Int32) : Prop :=
  (2 ≤ P ∧ P ≤ 8) ∧ (2 ≤ W ∧ W ≤ 4) ∧ (4 ≤ N ∧ N ≤ 16) ∧ (4 ≤ R ∧ R ≤ 24) ∧ (1 ≤ G ∧ G ≤ 4 ∧ P ≤ G * W ∧ (G - 1) * W < P)
  ∧ (∀ p, p < P → a_groupOf p = nI (p / W) ∧ a_groupBit p = (1 : Int32) <<< (nI (p % W) &&& 31)) ∧ (∀ g, g < G → a_groupStart g = nI (g * W))
def gk_P (P : Nat) (N : Nat) (C : Nat) (f_onlineMask : Int32) (a_modeOf : Nat → Int32) (a_cursorOf : Nat → Int32) (a_seenOf : Nat → Int32) (a_cursor : Nat → Int32) : Prop :=
  (∀ i, i < 32 → bt f_onlineMask i = (decide (i < P) && decide (a_modeOf i ≠ 0)))
  ∧ (∀ p, p < P → a_cursor p = a_cursorOf p ∧ gk_ix N (a_cursorOf p)) ∧ (∀ p, p < P → a_seenOf p ≤ nI C)
def gk_hb (P : Nat) (a_holder : Nat → Int32) (p : Nat) : Bool := decide (p < P) && decide (a_holder p ≠ 0)
def gk_ib (P : Nat) (a_holder a_idled : Nat → Int32) (p : Nat) : Bool := gk_hb P a_holder p && decide (a_idled p ≠ 0)
def gk_H (P : Nat) (W : Nat) (f_running : Int32) (f_rootHeld : Int32) (a_leafHeld : Nat → Int32) (a_leafIdled : Nat → Int32) (a_holder : Nat → Int32) (a_idled : Nat → Int32) : Prop :=
  (∀ g, g < 4 → ∀ i, i < 32 → bt (a_leafHeld g) i = (decide (i < W) && gk_hb P a_holder (g * W + i)))
  ∧ (∀ g, g < 4 → ∀ i, i < 32 → bt (a_leafIdled g) i = (decide (i < W) && gk_ib P a_holder a_idled (g * W + i)))
  ∧ (∀ g, g < 32 → bt f_rootHeld g = (decide (g < 4) && decide (a_leafHeld g ≠ 0)))
  ∧ (f_running = 0 → ∀ p, p < P → a_holder p = 0)
def gk_NL (N : Nat) (f_freeNodes f_head : Int32) (a_stateOf a_keyOf a_valueOf a_linkOf a_reclaimOf a_keys a_values a_kept : Nat → Int32) (NL : List Nat) : Prop :=
  f_head = gk_hd (-1) NL ∧ gk_sg a_linkOf (-1) NL ∧ NL.Pairwise (fun a b => a_keyOf a < a_keyOf b) ∧ (∀ n, n ∈ NL → n < N) ∧ (∀ n, n < N → (a_stateOf n = 1 ↔ n ∈ NL))
  ∧ (∀ n, n < N → ((a_stateOf n = 0 ∧ a_keyOf n = 0 ∧ a_valueOf n = 0 ∧ a_linkOf n = -1) ∨ ((a_stateOf n = 1 ∨ a_stateOf n = 2) ∧ a_keys n = a_keyOf n ∧ a_values n = a_valueOf n ∧ (a_stateOf n = 2 → a_kept n = a_linkOf n))))
  ∧ (∀ n, n < N → gk_ix N (a_linkOf n)) ∧ (∀ n, n < N → a_stateOf n ≠ 2 → a_reclaimOf n = -1)
  ∧ (∀ i, i < 32 → bt f_freeNodes i = (decide (i < N) && decide (a_stateOf i = 0)))
def gk_N (N : Nat) (f_freeNodes : Int32) (f_head : Int32) (a_stateOf : Nat → Int32) (a_keyOf : Nat → Int32) (a_valueOf : Nat → Int32) (a_linkOf : Nat → Int32) (a_reclaimOf : Nat → Int32) (a_keys : Nat → Int32) (a_values : Nat → Int32) (a_kept : Nat → Int32) : Prop := ∃ NL, gk_NL N f_freeNodes f_head a_stateOf a_keyOf a_valueOf a_linkOf a_reclaimOf a_keys a_values a_kept NL
def gk_QA (P : Nat) (C : Nat) (I : Nat) (f_running : Int32) (f_newestNeed : Int32) (a_modeOf : Nat → Int32) (RL : List gk_Rec) : Prop :=
  RL.Pairwise gk_lt
  ∧ (∀ r, r ∈ RL → 0 < r.1 ∧ r.1 ≤ nI I ∧ (r.2.2.1 = 1 ∨ r.2.2.1 = 2) ∧ r.2.2.2.2.2 ≤ f_newestNeed ∧ ∃ p, p < P ∧ a_modeOf p ≠ 0 ∧ r.2.1 = nI p)
  ∧ (nI C < f_newestNeed → ∃ r, r ∈ RL ∧ r.2.2.2.2.2 = f_newestNeed)
  ∧ f_newestNeed ≤ nI (C + 2) ∧ (f_running = 0 → f_newestNeed ≤ nI (C + 1)) ∧ I ≤ 30000
def gk_QB (P : Nat) (R : Nat) (a_recordTicket : Nat → Int32) (a_recordOwner : Nat → Int32) (a_recordKind : Nat → Int32) (a_recordTag : Nat → Int32) (a_recordHops : Nat → Int32) (a_recordNeed : Nat → Int32) (a_recordNext : Nat → Int32) (a_slotOfTicket : Nat → Int32) (a_seenOf : Nat → Int32) (a_firstRecord : Nat → Int32) (a_firstWaiting : Nat → Int32) (a_lastRecord : Nat → Int32) (a_ownedCount : Nat → Int32) (a_readyCount : Nat → Int32) (RL : List gk_Rec) : Prop :=
  ∀ p, p < P → ∃ A B, gk_QL R RL (gk_d a_recordTicket a_recordOwner a_recordKind a_recordTag a_recordHops a_recordNeed) a_recordNext a_slotOfTicket (a_seenOf p) (a_firstRecord p) (a_firstWaiting p) (a_lastRecord p) (a_ownedCount p) (a_readyCount p) p A B
def gk_QC (R : Nat) (I : Nat) (a_recordTicket : Nat → Int32) (a_recordOwner : Nat → Int32) (a_recordKind : Nat → Int32) (a_recordTag : Nat → Int32) (a_recordHops : Nat → Int32) (a_recordNeed : Nat → Int32) (a_recordNext : Nat → Int32) (f_freeSlot : Int32) (RL : List gk_Rec) : Prop :=
  ∃ FL : List Nat, f_freeSlot = gk_hd (-1) FL ∧ gk_sg a_recordNext (-1) FL ∧ FL.Nodup ∧ FL.length + RL.length = R
  ∧ ∀ s, s ∈ FL → s < R ∧ ((gk_d a_recordTicket a_recordOwner a_recordKind a_recordTag a_recordHops a_recordNeed) s).1 ≤ nI I ∧ ∀ r, r ∈ RL → r.1 ≠ ((gk_d a_recordTicket a_recordOwner a_recordKind a_recordTag a_recordHops a_recordNeed) s).1
def gk_QD (I : Nat) (a_slotOfTicket : Nat → Int32) (RL : List gk_Rec) : Prop :=
  ∀ t, 1 ≤ t → t ≤ I → (∀ r, r ∈ RL → r.1 ≠ nI t) → a_slotOfTicket t = 0
def gk_QS (I : Nat) (f_queued : Int32) (f_bound : Int32) (f_boundLeft : Int32) (RL : List gk_Rec) : Prop :=
  f_queued = nI RL.length ∧ f_bound ≤ nI I ∧ f_boundLeft = nI (RL.countP (fun r => decide (r.1 ≤ f_bound)))
def gk_QY (R : Nat) (a_rTicket : Nat → Int32) (a_rOwner : Nat → Int32) (a_rKind : Nat → Int32) (a_rTag : Nat → Int32) (a_rHops : Nat → Int32) (a_rNeed : Nat → Int32) (RL : List gk_Rec) : Prop := (gk_yl (gk_f a_rTicket a_rOwner a_rKind a_rTag a_rHops a_rNeed) R).Perm RL
def gk_QN (N : Nat) (a_stateOf : Nat → Int32) (a_reclaimOf : Nat → Int32) (RL : List gk_Rec) : Prop :=
  (∀ r, r ∈ RL → r.2.2.1 = 2 → ∃ n, n < N ∧ r.2.2.2.1 = nI n ∧ a_stateOf n = 2 ∧ a_reclaimOf n = r.1)
  ∧ (∀ n, n < N → a_stateOf n = 2 → ∃ r, r ∈ RL ∧ r.2.2.1 = 2 ∧ r.2.2.2.1 = nI n)
def gk_ALL (k : Nat) (P : Nat) (W : Nat) (N : Nat) (R : Nat) (G : Nat) (a_groupOf : Nat → Int32) (a_groupBit : Nat → Int32) (a_groupStart : Nat → Int32) (C : Nat) (f_onlineMask : Int32) (a_modeOf : Nat → Int32) (a_cursorOf : Nat → Int32) (a_seenOf : Nat → Int32) (a_cursor : Nat → Int32) (f_running : Int32) (f_rootHeld : Int32) (a_leafHeld : Nat → Int32) (a_leafIdled : Nat → Int32) (a_holder : Nat → Int32) (a_idled : Nat → Int32) (f_freeNodes : Int32) (f_head : Int32) (a_stateOf : Nat → Int32) (a_keyOf : Nat → Int32) (a_valueOf : Nat → Int32) (a_linkOf : Nat → Int32) (a_reclaimOf : Nat → Int32) (a_keys : Nat → Int32) (a_values : Nat → Int32) (a_kept : Nat → Int32) (I : Nat) (f_newestNeed : Int32) (RL : List gk_Rec) (a_recordTicket : Nat → Int32) (a_recordOwner : Nat → Int32) (a_recordKind : Nat → Int32) (a_recordTag : Nat → Int32) (a_recordHops : Nat → Int32) (a_recordNeed : Nat → Int32) (a_recordNext : Nat → Int32) (a_slotOfTicket : Nat → Int32) (a_firstRecord : Nat → Int32) (a_firstWaiting : Nat → Int32) (a_lastRecord : Nat → Int32) (a_ownedCount : Nat → Int32) (a_readyCount : Nat → Int32) (f_freeSlot : Int32) (f_queued : Int32) (f_bound : Int32) (f_boundLeft : Int32) (a_rTicket : Nat → Int32) (a_rOwner : Nat → Int32) (a_rKind : Nat → Int32) (a_rTag : Nat → Int32) (a_rHops : Nat → Int32) (a_rNeed : Nat → Int32) : Prop := 4 * C ≤ k ∧ (gk_C P W N R G a_groupOf a_groupBit a_groupStart) ∧ (gk_P P N C f_onlineMask a_modeOf a_cursorOf a_seenOf a_cursor) ∧ (gk_H P W f_running f_rootHeld a_leafHeld a_leafIdled a_holder a_idled) ∧ (gk_N N f_freeNodes f_head a_stateOf a_keyOf a_valueOf a_linkOf a_reclaimOf a_keys a_values a_kept) ∧ (gk_QA P C I f_running f_newestNeed a_modeOf RL) ∧ (gk_QB P R a_recordTicket a_recordOwner a_recordKind a_recordTag a_recordHops a_recordNeed a_recordNext a_slotOfTicket a_seenOf a_firstRecord a_firstWaiting a_lastRecord a_ownedCount a_readyCount RL) ∧ (gk_QC R I a_recordTicket a_recordOwner a_recordKind a_recordTag a_recordHops a_recordNeed a_recordNext f_freeSlot RL) ∧ (gk_QD I a_slotOfTicket RL) ∧ (gk_QS I f_queued f_bound f_boundLeft RL) ∧ (gk_QY R a_rTicket a_rOwner a_rKind a_rTag a_rHops a_rNeed RL) ∧ (gk_QN N a_stateOf a_reclaimOf RL)
def gk_XQ (P : Nat) (C : Nat) (I : Nat) (f_running : Int32) (f_newestNeed : Int32) (a_modeOf : Nat → Int32) (RL : List gk_Rec) (R : Nat) (a_recordTicket : Nat → Int32) (a_recordOwner : Nat → Int32) (a_recordKind : Nat → Int32) (a_recordTag : Nat → Int32) (a_recordHops : Nat → Int32) (a_recordNeed : Nat → Int32) (a_recordNext : Nat → Int32) (a_slotOfTicket : Nat → Int32) (a_seenOf : Nat → Int32) (a_firstRecord : Nat → Int32) (a_firstWaiting : Nat → Int32) (a_lastRecord : Nat → Int32) (a_ownedCount : Nat → Int32) (a_readyCount : Nat → Int32) (f_freeSlot : Int32) (f_queued : Int32) (f_bound : Int32) (f_boundLeft : Int32) : Prop := (gk_QA P C I f_running f_newestNeed a_modeOf RL) ∧ (gk_QB P R a_recordTicket a_recordOwner a_recordKind a_recordTag a_recordHops a_recordNeed a_recordNext a_slotOfTicket a_seenOf a_firstRecord a_firstWaiting a_lastRecord a_ownedCount a_readyCount RL) ∧ (gk_QC R I a_recordTicket a_recordOwner a_recordKind a_recordTag a_recordHops a_recordNeed a_recordNext f_freeSlot RL) ∧ (gk_QD I a_slotOfTicket RL) ∧ (gk_QS I f_queued f_bound f_boundLeft RL)
/-- the relation at the head of a turn whose first cell is k -/
def i_Rel (k : Nat) (u : SX) (v : SY) : Prop := ∃ P : Nat, ∃ W : Nat, ∃ N : Nat, ∃ R : Nat, ∃ G : Nat, ∃ C : Nat, ∃ I : Nat, ∃ RL : List gk_Rec, ∃ f_onlineMask : Int32, ∃ f_rootHeld : Int32, ∃ f_freeNodes : Int32, ∃ f_head : Int32, ∃ f_freeSlot : Int32, ∃ f_queued : Int32, ∃ f_running : Int32, ∃ f_newestNeed : Int32, ∃ f_bound : Int32, ∃ f_boundLeft : Int32, ∃ f_last : Int32, ∃ f_digest : Int32, ∃ a_modeOf : Nat → Int32, ∃ a_depthOf : Nat → Int32, ∃ a_cursorOf : Nat → Int32, ∃ a_notedOf : Nat → Int32, ∃ a_passedOf : Nat → Int32, ∃ a_seenOf : Nat → Int32, ∃ a_groupOf : Nat → Int32, ∃ a_groupBit : Nat → Int32, ∃ a_groupStart : Nat → Int32, ∃ a_leafHeld : Nat → Int32, ∃ a_leafIdled : Nat → Int32, ∃ a_stateOf : Nat → Int32, ∃ a_keyOf : Nat → Int32, ∃ a_valueOf : Nat → Int32, ∃ a_linkOf : Nat → Int32, ∃ a_birthsOf : Nat → Int32, ∃ a_reclaimOf : Nat → Int32, ∃ a_recordTicket : Nat → Int32, ∃ a_recordOwner : Nat → Int32, ∃ a_recordKind : Nat → Int32, ∃ a_recordTag : Nat → Int32, ∃ a_recordHops : Nat → Int32, ∃ a_recordNeed : Nat → Int32, ∃ a_recordNext : Nat → Int32, ∃ a_slotOfTicket : Nat → Int32, ∃ a_firstRecord : Nat → Int32, ∃ a_firstWaiting : Nat → Int32, ∃ a_lastRecord : Nat → Int32, ∃ a_ownedCount : Nat → Int32, ∃ a_readyCount : Nat → Int32, ∃ a_cursor : Nat → Int32, ∃ a_holder : Nat → Int32, ∃ a_idled : Nat → Int32, ∃ a_keys : Nat → Int32, ∃ a_values : Nat → Int32, ∃ a_kept : Nat → Int32, ∃ a_rTicket : Nat → Int32, ∃ a_rOwner : Nat → Int32, ∃ a_rKind : Nat → Int32, ∃ a_rTag : Nat → Int32, ∃ a_rHops : Nat → Int32, ∃ a_rNeed : Nat → Int32, u = (nI P, nI N, nI R, nI G, f_onlineMask, f_rootHeld, f_freeNodes, f_head, f_freeSlot, f_queued, f_running, nI C, nI I, f_newestNeed, f_bound, f_boundLeft, f_last, f_digest, a_modeOf, a_depthOf, a_cursorOf, a_notedOf, a_passedOf, a_seenOf, a_groupOf, a_groupBit, a_groupStart, a_leafHeld, a_leafIdled, a_stateOf, a_keyOf, a_valueOf, a_linkOf, a_birthsOf, a_reclaimOf, a_recordTicket, a_recordOwner, a_recordKind, a_recordTag, a_recordHops, a_recordNeed, a_recordNext, a_slotOfTicket, a_firstRecord, a_firstWaiting, a_lastRecord, a_ownedCount, a_readyCount) ∧ v = (nI P, nI W, nI N, nI R, f_running, nI C, nI I, f_bound, f_last, f_digest, a_modeOf, a_depthOf, a_cursor, a_notedOf, a_passedOf, a_seenOf, a_holder, a_idled, a_stateOf, a_keys, a_values, a_kept, a_birthsOf, a_rTicket, a_rOwner, a_rKind, a_rTag, a_rHops, a_rNeed) ∧ (gk_ALL k P W N R G a_groupOf a_groupBit a_groupStart C f_onlineMask a_modeOf a_cursorOf a_seenOf a_cursor f_running f_rootHeld a_leafHeld a_leafIdled a_holder a_idled f_freeNodes f_head a_stateOf a_keyOf a_valueOf a_linkOf a_reclaimOf a_keys a_values a_kept I f_newestNeed RL a_recordTicket a_recordOwner a_recordKind a_recordTag a_recordHops a_recordNeed a_recordNext a_slotOfTicket a_firstRecord a_firstWaiting a_lastRecord a_ownedCount a_readyCount f_freeSlot f_queued f_bound f_boundLeft a_rTicket a_rOwner a_rKind a_rTag a_rHops a_rNeed)
theorem gk_el {k : Nat} {u : SX} {v : SY} {Pr : SX → SY → Prop} (h : ∀ (P : Nat) (W : Nat) (N : Nat) (R : Nat) (G : Nat) (C : Nat) (I : Nat) (RL : List gk_Rec) (f_onlineMask : Int32) (f_rootHeld : Int32) (f_freeNodes : Int32) (f_head : Int32) (f_freeSlot : Int32) (f_queued : Int32) (f_running : Int32) (f_newestNeed : Int32) (f_bound : Int32) (f_boundLeft : Int32) (f_last : Int32) (f_digest : Int32) (a_modeOf : Nat → Int32) (a_depthOf : Nat → Int32) (a_cursorOf : Nat → Int32) (a_notedOf : Nat → Int32) (a_passedOf : Nat → Int32) (a_seenOf : Nat → Int32) (a_groupOf : Nat → Int32) (a_groupBit : Nat → Int32) (a_groupStart : Nat → Int32) (a_leafHeld : Nat → Int32) (a_leafIdled : Nat → Int32) (a_stateOf : Nat → Int32) (a_keyOf : Nat → Int32) (a_valueOf : Nat → Int32) (a_linkOf : Nat → Int32) (a_birthsOf : Nat → Int32) (a_reclaimOf : Nat → Int32) (a_recordTicket : Nat → Int32) (a_recordOwner : Nat → Int32) (a_recordKind : Nat → Int32) (a_recordTag : Nat → Int32) (a_recordHops : Nat → Int32) (a_recordNeed : Nat → Int32) (a_recordNext : Nat → Int32) (a_slotOfTicket : Nat → Int32) (a_firstRecord : Nat → Int32) (a_firstWaiting : Nat → Int32) (a_lastRecord : Nat → Int32) (a_ownedCount : Nat → Int32) (a_readyCount : Nat → Int32) (a_cursor : Nat → Int32) (a_holder : Nat → Int32) (a_idled : Nat → Int32) (a_keys : Nat → Int32) (a_values : Nat → Int32) (a_kept : Nat → Int32) (a_rTicket : Nat → Int32) (a_rOwner : Nat → Int32) (a_rKind : Nat → Int32) (a_rTag : Nat → Int32) (a_rHops : Nat → Int32) (a_rNeed : Nat → Int32), (gk_ALL k P W N R G a_groupOf a_groupBit a_groupStart C f_onlineMask a_modeOf a_cursorOf a_seenOf a_cursor f_running f_rootHeld a_leafHeld a_leafIdled a_holder a_idled f_freeNodes f_head a_stateOf a_keyOf a_valueOf a_linkOf a_reclaimOf a_keys a_values a_kept I f_newestNeed RL a_recordTicket a_recordOwner a_recordKind a_recordTag a_recordHops a_recordNeed a_recordNext a_slotOfTicket a_firstRecord a_firstWaiting a_lastRecord a_ownedCount a_readyCount f_freeSlot f_queued f_bound f_boundLeft a_rTicket a_rOwner a_rKind a_rTag a_rHops a_rNeed) → Pr (nI P, nI N, nI R, nI G, f_onlineMask, f_rootHeld, f_freeNodes, f_head, f_freeSlot, f_queued, f_running, nI C, nI I, f_newestNeed, f_bound, f_boundLeft, f_last, f_digest, a_modeOf, a_depthOf, a_cursorOf, a_notedOf, a_passedOf, a_seenOf, a_groupOf, a_groupBit, a_groupStart, a_leafHeld, a_leafIdled, a_stateOf, a_keyOf, a_valueOf, a_linkOf, a_birthsOf, a_reclaimOf, a_recordTicket, a_recordOwner, a_recordKind, a_recordTag, a_recordHops, a_recordNeed, a_recordNext, a_slotOfTicket, a_firstRecord, a_firstWaiting, a_lastRecord, a_ownedCount, a_readyCount) (nI P, nI W, nI N, nI R, f_running, nI C, nI I, f_bound, f_last, f_digest, a_modeOf, a_depthOf, a_cursor, a_notedOf, a_passedOf, a_seenOf, a_holder, a_idled, a_stateOf, a_keys, a_values, a_kept, a_birthsOf, a_rTicket, a_rOwner, a_rKind, a_rTag, a_rHops, a_rNeed)) (I0 : i_Rel k u v) : Pr u v :=
  Exists.elim I0 fun P I0 => Exists.elim I0 fun W I0 => Exists.elim I0 fun N I0 => Exists.elim I0 fun R I0 => Exists.elim I0 fun G I0 => Exists.elim I0 fun C I0 => Exists.elim I0 fun I I0 => Exists.elim I0 fun RL I0 => Exists.elim I0 fun f_onlineMask I0 => Exists.elim I0 fun f_rootHeld I0 => Exists.elim I0 fun f_freeNodes I0 => Exists.elim I0 fun f_head I0 => Exists.elim I0 fun f_freeSlot I0 => Exists.elim I0 fun f_queued I0 => Exists.elim I0 fun f_running I0 => Exists.elim I0 fun f_newestNeed I0 => Exists.elim I0 fun f_bound I0 => Exists.elim I0 fun f_boundLeft I0 => Exists.elim I0 fun f_last I0 => Exists.elim I0 fun f_digest I0 => Exists.elim I0 fun a_modeOf I0 => Exists.elim I0 fun a_depthOf I0 => Exists.elim I0 fun a_cursorOf I0 => Exists.elim I0 fun a_notedOf I0 => Exists.elim I0 fun a_passedOf I0 => Exists.elim I0 fun a_seenOf I0 => Exists.elim I0 fun a_groupOf I0 => Exists.elim I0 fun a_groupBit I0 => Exists.elim I0 fun a_groupStart I0 => Exists.elim I0 fun a_leafHeld I0 => Exists.elim I0 fun a_leafIdled I0 => Exists.elim I0 fun a_stateOf I0 => Exists.elim I0 fun a_keyOf I0 => Exists.elim I0 fun a_valueOf I0 => Exists.elim I0 fun a_linkOf I0 => Exists.elim I0 fun a_birthsOf I0 => Exists.elim I0 fun a_reclaimOf I0 => Exists.elim I0 fun a_recordTicket I0 => Exists.elim I0 fun a_recordOwner I0 => Exists.elim I0 fun a_recordKind I0 => Exists.elim I0 fun a_recordTag I0 => Exists.elim I0 fun a_recordHops I0 => Exists.elim I0 fun a_recordNeed I0 => Exists.elim I0 fun a_recordNext I0 => Exists.elim I0 fun a_slotOfTicket I0 => Exists.elim I0 fun a_firstRecord I0 => Exists.elim I0 fun a_firstWaiting I0 => Exists.elim I0 fun a_lastRecord I0 => Exists.elim I0 fun a_ownedCount I0 => Exists.elim I0 fun a_readyCount I0 => Exists.elim I0 fun a_cursor I0 => Exists.elim I0 fun a_holder I0 => Exists.elim I0 fun a_idled I0 => Exists.elim I0 fun a_keys I0 => Exists.elim I0 fun a_values I0 => Exists.elim I0 fun a_kept I0 => Exists.elim I0 fun a_rTicket I0 => Exists.elim I0 fun a_rOwner I0 => Exists.elim I0 fun a_rKind I0 => Exists.elim I0 fun a_rTag I0 => Exists.elim I0 fun a_rHops I0 => Exists.elim I0 fun a_rNeed I0 => I0.1 ▸ I0.2.1 ▸ h P W N R G C I RL f_onlineMask f_rootHeld f_freeNodes f_head f_freeSlot f_queued f_running f_newestNeed f_bound f_boundLeft f_last f_digest a_modeOf a_depthOf a_cursorOf a_notedOf a_passedOf a_seenOf a_groupOf a_groupBit a_groupStart a_leafHeld a_leafIdled a_stateOf a_keyOf a_valueOf a_linkOf a_birthsOf a_reclaimOf a_recordTicket a_recordOwner a_recordKind a_recordTag a_recordHops a_recordNeed a_recordNext a_slotOfTicket a_firstRecord a_firstWaiting a_lastRecord a_ownedCount a_readyCount a_cursor a_holder a_idled a_keys a_values a_kept a_rTicket a_rOwner a_rKind a_rTag a_rHops a_rNeed I0.2.2
section
variable {k : Nat}
variable {P W N R G C I : Nat} {RL : List gk_Rec}
variable {f_onlineMask f_rootHeld f_freeNodes f_head f_freeSlot f_queued f_running f_newestNeed f_bound f_boundLeft f_last f_digest : Int32}
variable {a_modeOf a_depthOf a_cursorOf a_notedOf a_passedOf a_seenOf a_groupOf a_groupBit a_groupStart a_leafHeld a_leafIdled a_stateOf a_keyOf a_valueOf a_linkOf a_birthsOf a_reclaimOf a_recordTicket a_recordOwner a_recordKind a_recordTag a_recordHops a_recordNeed a_recordNext a_slotOfTicket a_firstRecord a_firstWaiting a_lastRecord a_ownedCount a_readyCount a_cursor a_holder a_idled a_keys a_values a_kept a_rTicket a_rOwner a_rKind a_rTag a_rHops a_rNeed : Nat → Int32}
theorem gk_in (H : (gk_ALL k P W N R G a_groupOf a_groupBit a_groupStart C f_onlineMask a_modeOf a_cursorOf a_seenOf a_cursor f_running f_rootHeld a_leafHeld a_leafIdled a_holder a_idled f_freeNodes f_head a_stateOf a_keyOf a_valueOf a_linkOf a_reclaimOf a_keys a_values a_kept I f_newestNeed RL a_recordTicket a_recordOwner a_recordKind a_recordTag a_recordHops a_recordNeed a_recordNext a_slotOfTicket a_firstRecord a_firstWaiting a_lastRecord a_ownedCount a_readyCount f_freeSlot f_queued f_bound f_boundLeft a_rTicket a_rOwner a_rKind a_rTag a_rHops a_rNeed)) : i_Rel k (nI P, nI N, nI R, nI G, f_onlineMask, f_rootHeld, f_freeNodes, f_head, f_freeSlot, f_queued, f_running, nI C, nI I, f_newestNeed, f_bound, f_boundLeft, f_last, f_digest, a_modeOf, a_depthOf, a_cursorOf, a_notedOf, a_passedOf, a_seenOf, a_groupOf, a_groupBit, a_groupStart, a_leafHeld, a_leafIdled, a_stateOf, a_keyOf, a_valueOf, a_linkOf, a_birthsOf, a_reclaimOf, a_recordTicket, a_recordOwner, a_recordKind, a_recordTag, a_recordHops, a_recordNeed, a_recordNext, a_slotOfTicket, a_firstRecord, a_firstWaiting, a_lastRecord, a_ownedCount, a_readyCount) (nI P, nI W, nI N, nI R, f_running, nI C, nI I, f_bound, f_last, f_digest, a_modeOf, a_depthOf, a_cursor, a_notedOf, a_passedOf, a_seenOf, a_holder, a_idled, a_stateOf, a_keys, a_values, a_kept, a_birthsOf, a_rTicket, a_rOwner, a_rKind, a_rTag, a_rHops, a_rNeed) :=
  ⟨_, _, _, _, _, _, _, _, _, _, _, _, _, _, _, _, _, _, _, _, _, _, _, _, _, _, _, _, _, _, _, _, _, _, _, _, _, _, _, _, _, _, _, _, _, _, _, _, _, _, _, _, _, _, _, _, _, _, _, _, _, _, rfl, rfl, H⟩
end
theorem i_up {k : Nat} {u : SX} {v : SY} (h : i_Rel k u v) : i_Rel (k + 4) u v := by
  refine gk_el (Pr := fun u v => i_Rel (k + 4) u v) ?_ h
  intro P W N R G C I RL f_onlineMask f_rootHeld f_freeNodes f_head f_freeSlot f_queued f_running f_newestNeed f_bound f_boundLeft f_last f_digest a_modeOf a_depthOf a_cursorOf a_notedOf a_passedOf a_seenOf a_groupOf a_groupBit a_groupStart a_leafHeld a_leafIdled a_stateOf a_keyOf a_valueOf a_linkOf a_birthsOf a_reclaimOf a_recordTicket a_recordOwner a_recordKind a_recordTag a_recordHops a_recordNeed a_recordNext a_slotOfTicket a_firstRecord a_firstWaiting a_lastRecord a_ownedCount a_readyCount a_cursor a_holder a_idled a_keys a_values a_kept a_rTicket a_rOwner a_rKind a_rTag a_rHops a_rNeed H
  exact gk_in ⟨Nat.le_trans H.1 (Nat.le_add_right k 4), H.2⟩
end
section
/-- one answer of the check of an active processor, for both sides -/
def gk_CK (P : Nat) (a_modeOf : Nat → Int32) (u : SX) (v : SY) (x : Int32) : Prop :=
  ∃ r : Int32, (∀ post : Int32 → Prop, post r → wpX_checkActive post u x) ∧ (∀ post : Int32 → Prop, post r → wpY_check post v x) ∧ (r = 0 → ∃ p, p < P ∧ x = nI p ∧ a_modeOf p ≠ 0)
section
variable {k : Nat}
variable {P W N R G C I : Nat} {RL : List gk_Rec}
variable {f_onlineMask f_rootHeld f_freeNodes f_head f_freeSlot f_queued f_running f_newestNeed f_bound f_boundLeft f_last f_digest : Int32}
variable {a_modeOf a_depthOf a_cursorOf a_notedOf a_passedOf a_seenOf a_groupOf a_groupBit a_groupStart a_leafHeld a_leafIdled a_stateOf a_keyOf a_valueOf a_linkOf a_birthsOf a_reclaimOf a_recordTicket a_recordOwner a_recordKind a_recordTag a_recordHops a_recordNeed a_recordNext a_slotOfTicket a_firstRecord a_firstWaiting a_lastRecord a_ownedCount a_readyCount a_cursor a_holder a_idled a_keys a_values a_kept a_rTicket a_rOwner a_rKind a_rTag a_rHops a_rNeed : Nat → Int32}
theorem gk_up4 (H : (gk_ALL k P W N R G a_groupOf a_groupBit a_groupStart C f_onlineMask a_modeOf a_cursorOf a_seenOf a_cursor f_running f_rootHeld a_leafHeld a_leafIdled a_holder a_idled f_freeNodes f_head a_stateOf a_keyOf a_valueOf a_linkOf a_reclaimOf a_keys a_values a_kept I f_newestNeed RL a_recordTicket a_recordOwner a_recordKind a_recordTag a_recordHops a_recordNeed a_recordNext a_slotOfTicket a_firstRecord a_firstWaiting a_lastRecord a_ownedCount a_readyCount f_freeSlot f_queued f_bound f_boundLeft a_rTicket a_rOwner a_rKind a_rTag a_rHops a_rNeed)) : (gk_ALL (k + 4) P W N R G a_groupOf a_groupBit a_groupStart C f_onlineMask a_modeOf a_cursorOf a_seenOf a_cursor f_running f_rootHeld a_leafHeld a_leafIdled a_holder a_idled f_freeNodes f_head a_stateOf a_keyOf a_valueOf a_linkOf a_reclaimOf a_keys a_values a_kept I f_newestNeed RL a_recordTicket a_recordOwner a_recordKind a_recordTag a_recordHops a_recordNeed a_recordNext a_slotOfTicket a_firstRecord a_firstWaiting a_lastRecord a_ownedCount a_readyCount f_freeSlot f_queued f_bound f_boundLeft a_rTicket a_rOwner a_rKind a_rTag a_rHops a_rNeed) := ⟨Nat.le_trans H.1 (Nat.le_add_right k 4), H.2⟩
theorem gk_ck (hP : P ≤ 8) (x : Int32) : gk_CK P a_modeOf (nI P, nI N, nI R, nI G, f_onlineMask, f_rootHeld, f_freeNodes, f_head, f_freeSlot, f_queued, f_running, nI C, nI I, f_newestNeed, f_bound, f_boundLeft, f_last, f_digest, a_modeOf, a_depthOf, a_cursorOf, a_notedOf, a_passedOf, a_seenOf, a_groupOf, a_groupBit, a_groupStart, a_leafHeld, a_leafIdled, a_stateOf, a_keyOf, a_valueOf, a_linkOf, a_birthsOf, a_reclaimOf, a_recordTicket, a_recordOwner, a_recordKind, a_recordTag, a_recordHops, a_recordNeed, a_recordNext, a_slotOfTicket, a_firstRecord, a_firstWaiting, a_lastRecord, a_ownedCount, a_readyCount) (nI P, nI W, nI N, nI R, f_running, nI C, nI I, f_bound, f_last, f_digest, a_modeOf, a_depthOf, a_cursor, a_notedOf, a_passedOf, a_seenOf, a_holder, a_idled, a_stateOf, a_keys, a_values, a_kept, a_birthsOf, a_rTicket, a_rOwner, a_rKind, a_rTag, a_rHops, a_rNeed) x := by
  rcases pk_ix x (n := P) (by omega) with h | h | ⟨p, hp, rfl⟩
  · exact ⟨-2, fun post k => br_t h (br_t rfl k), fun post k => br_t h k, fun z => absurd z (by decide)⟩
  · have h0 : ¬ x < 0 := by
      rw [gk_nlt]; exact gk_let (nI_pos' (n := P) (by omega)) h
    have h1 : ¬ x < nI P := gk_nlt.mpr h
    exact ⟨-2, fun post k => br_f h0 (br_t h (br_t rfl k)), fun post k => br_f h0 (br_f h1 k), fun z => absurd z (by decide)⟩
  · have h0 := nI_pos (n := p) (by omega)
    have h1 : ¬ nI P ≤ nI p := nI_ge hp (by omega)
    have h2 : nI p < nI P := nI_lt hp (by omega)
    have hin : vp_in (nI p) 8 := vp_in_nI (by omega) (by omega)
    have c : (nI p).toNatClampNeg = p := nI_clamp (by omega)
    have one : ¬ (1 : Int32) = 0 := by decide
    by_cases m0 : a_modeOf (nI p).toNatClampNeg = 0
    · exact ⟨-3, fun post k => br_f h0 (br_f h1 (br_f one ⟨hin, br_t m0 k⟩)), fun post k => br_f h0 (br_t h2 ⟨hin, br_t m0 k⟩), fun z => absurd z (by decide)⟩
    · by_cases m2 : a_modeOf (nI p).toNatClampNeg = 2
      · exact ⟨-4, fun post k => br_f h0 (br_f h1 (br_f one ⟨hin, br_f m0 ⟨hin, br_t m2 k⟩⟩)), fun post k => br_f h0 (br_t h2 ⟨hin, br_f m0 ⟨hin, br_t m2 k⟩⟩), fun z => absurd z (by decide)⟩
      · exact ⟨0, fun post k => br_f h0 (br_f h1 (br_f one ⟨hin, br_f m0 ⟨hin, br_f m2 k⟩⟩)), fun post k => br_f h0 (br_t h2 ⟨hin, br_f m0 ⟨hin, br_f m2 k⟩⟩), fun _ => ⟨p, hp, rfl, by rw [c] at m0; exact m0⟩⟩
/-- both sides' first question: is it a processor? -/
theorem gk_exX {post : Int32 → Prop} {p : Nat} (hP : P ≤ 8) (hp : p < P) (k : post 1) : wpX_exists post (nI P, nI N, nI R, nI G, f_onlineMask, f_rootHeld, f_freeNodes, f_head, f_freeSlot, f_queued, f_running, nI C, nI I, f_newestNeed, f_bound, f_boundLeft, f_last, f_digest, a_modeOf, a_depthOf, a_cursorOf, a_notedOf, a_passedOf, a_seenOf, a_groupOf, a_groupBit, a_groupStart, a_leafHeld, a_leafIdled, a_stateOf, a_keyOf, a_valueOf, a_linkOf, a_birthsOf, a_reclaimOf, a_recordTicket, a_recordOwner, a_recordKind, a_recordTag, a_recordHops, a_recordNeed, a_recordNext, a_slotOfTicket, a_firstRecord, a_firstWaiting, a_lastRecord, a_ownedCount, a_readyCount) (nI p) :=
  br_f (nI_pos (by omega)) (br_f (nI_ge hp (by omega)) k)
theorem gk_nX {post : Int32 → Prop} {x : Int32} (hP : P ≤ 8) (hx : ∀ p, p < P → x ≠ nI p) (k : post 0) : wpX_exists post (nI P, nI N, nI R, nI G, f_onlineMask, f_rootHeld, f_freeNodes, f_head, f_freeSlot, f_queued, f_running, nI C, nI I, f_newestNeed, f_bound, f_boundLeft, f_last, f_digest, a_modeOf, a_depthOf, a_cursorOf, a_notedOf, a_passedOf, a_seenOf, a_groupOf, a_groupBit, a_groupStart, a_leafHeld, a_leafIdled, a_stateOf, a_keyOf, a_valueOf, a_linkOf, a_birthsOf, a_reclaimOf, a_recordTicket, a_recordOwner, a_recordKind, a_recordTag, a_recordHops, a_recordNeed, a_recordNext, a_slotOfTicket, a_firstRecord, a_firstWaiting, a_lastRecord, a_ownedCount, a_readyCount) x := by
  rcases pk_ix x (n := P) (by omega) with h | h | ⟨p, hp, rfl⟩
  · exact br_t h k
  · exact br_f (by rw [gk_nlt]; exact gk_let (nI_pos' (n := P) (by omega)) h) (br_t h k)
  · exact absurd rfl (hx p hp)
theorem gk_nY {A B D : Prop} {x : Int32} (hP : P ≤ 8) (hx : ∀ p, p < P → x ≠ nI p) (ha : A) (hd : D) : (x < 0 → A) ∧ (¬ x < 0 → ((x < nI P → B) ∧ (¬ x < nI P → D))) := by
  rcases pk_ix x (n := P) (by omega) with h | h | ⟨p, hp, rfl⟩
  · exact br_t h ha
  · exact br_f (by rw [gk_nlt]; exact gk_let (nI_pos' (n := P) (by omega)) h) (br_f (gk_nlt.mpr h) hd)
  · exact absurd rfl (hx p hp)
theorem gk_isp (hP : P ≤ 8) (x : Int32) : (∃ p, p < P ∧ x = nI p) ∨ ∀ p, p < P → x ≠ nI p := by
  by_cases h : ∃ p, p < P ∧ x = nI p
  · exact Or.inl h
  · exact Or.inr (fun p hp e => h ⟨p, hp, e⟩)
end
/-! the methods that touch nothing of the relation -/
theorem i_vc_enter {k : Nat} {u : SX} {v : SY} (I : i_Rel k u v) (hk : k + 4 ≤ 2052) (v1 : Int32) : wpX_enter (fun r u' => wpY_enter (fun r' v' => r' = r ∧ i_Rel (k + 4) u' v') v v1) u v1 := by
  refine gk_el (Pr := fun u v => wpX_enter (fun r u' => wpY_enter (fun r' v' => r' = r ∧ i_Rel (k + 4) u' v') v v1) u v1) ?_ I
  intro P W N R G C I RL f_onlineMask f_rootHeld f_freeNodes f_head f_freeSlot f_queued f_running f_newestNeed f_bound f_boundLeft f_last f_digest a_modeOf a_depthOf a_cursorOf a_notedOf a_passedOf a_seenOf a_groupOf a_groupBit a_groupStart a_leafHeld a_leafIdled a_stateOf a_keyOf a_valueOf a_linkOf a_birthsOf a_reclaimOf a_recordTicket a_recordOwner a_recordKind a_recordTag a_recordHops a_recordNeed a_recordNext a_slotOfTicket a_firstRecord a_firstWaiting a_lastRecord a_ownedCount a_readyCount a_cursor a_holder a_idled a_keys a_values a_kept a_rTicket a_rOwner a_rKind a_rTag a_rHops a_rNeed H
  obtain ⟨r, hX, hY, h0⟩ : gk_CK P a_modeOf (nI P, nI N, nI R, nI G, f_onlineMask, f_rootHeld, f_freeNodes, f_head, f_freeSlot, f_queued, f_running, nI C, nI I, f_newestNeed, f_bound, f_boundLeft, f_last, f_digest, a_modeOf, a_depthOf, a_cursorOf, a_notedOf, a_passedOf, a_seenOf, a_groupOf, a_groupBit, a_groupStart, a_leafHeld, a_leafIdled, a_stateOf, a_keyOf, a_valueOf, a_linkOf, a_birthsOf, a_reclaimOf, a_recordTicket, a_recordOwner, a_recordKind, a_recordTag, a_recordHops, a_recordNeed, a_recordNext, a_slotOfTicket, a_firstRecord, a_firstWaiting, a_lastRecord, a_ownedCount, a_readyCount) (nI P, nI W, nI N, nI R, f_running, nI C, nI I, f_bound, f_last, f_digest, a_modeOf, a_depthOf, a_cursor, a_notedOf, a_passedOf, a_seenOf, a_holder, a_idled, a_stateOf, a_keys, a_values, a_kept, a_birthsOf, a_rTicket, a_rOwner, a_rKind, a_rTag, a_rHops, a_rNeed) v1 := gk_ck H.2.1.1.2 v1
  unfold wpX_enter
  refine hX _ ?_
  by_cases e : r = 0
  · obtain ⟨p, hp, rfl, hm⟩ := h0 e
    have hin : vp_in (nI p) 8 := vp_in_nI (Nat.lt_of_lt_of_le hp H.2.1.1.2) (by omega)
    refine br_t e ⟨hin, ?_⟩
    by_cases hd : a_depthOf (nI p).toNatClampNeg < 7
    · refine br_t hd ⟨hin, hin, nm_e ⟨hin, ?_⟩⟩
      unfold wpY_enter
      exact hY _ (br_t e ⟨hin, br_t hd ⟨hin, hin, nm_e ⟨hin, rfl, gk_in (gk_up4 H)⟩⟩⟩)
    · refine br_f hd ?_
      unfold wpY_enter
      exact hY _ (br_t e ⟨hin, br_f hd ⟨rfl, gk_in (gk_up4 H)⟩⟩)
  · refine br_f e ?_
    unfold wpY_enter
    exact hY _ (br_f e ⟨rfl, gk_in (gk_up4 H)⟩)
theorem i_vc_pass {k : Nat} {u : SX} {v : SY} (I : i_Rel k u v) (hk : k + 4 ≤ 2052) (v1 : Int32) : wpX_pass (fun r u' => wpY_pass (fun r' v' => r' = r ∧ i_Rel (k + 4) u' v') v v1) u v1 := by
  refine gk_el (Pr := fun u v => wpX_pass (fun r u' => wpY_pass (fun r' v' => r' = r ∧ i_Rel (k + 4) u' v') v v1) u v1) ?_ I
  intro P W N R G C I RL f_onlineMask f_rootHeld f_freeNodes f_head f_freeSlot f_queued f_running f_newestNeed f_bound f_boundLeft f_last f_digest a_modeOf a_depthOf a_cursorOf a_notedOf a_passedOf a_seenOf a_groupOf a_groupBit a_groupStart a_leafHeld a_leafIdled a_stateOf a_keyOf a_valueOf a_linkOf a_birthsOf a_reclaimOf a_recordTicket a_recordOwner a_recordKind a_recordTag a_recordHops a_recordNeed a_recordNext a_slotOfTicket a_firstRecord a_firstWaiting a_lastRecord a_ownedCount a_readyCount a_cursor a_holder a_idled a_keys a_values a_kept a_rTicket a_rOwner a_rKind a_rTag a_rHops a_rNeed H
  obtain ⟨r, hX, hY, h0⟩ : gk_CK P a_modeOf (nI P, nI N, nI R, nI G, f_onlineMask, f_rootHeld, f_freeNodes, f_head, f_freeSlot, f_queued, f_running, nI C, nI I, f_newestNeed, f_bound, f_boundLeft, f_last, f_digest, a_modeOf, a_depthOf, a_cursorOf, a_notedOf, a_passedOf, a_seenOf, a_groupOf, a_groupBit, a_groupStart, a_leafHeld, a_leafIdled, a_stateOf, a_keyOf, a_valueOf, a_linkOf, a_birthsOf, a_reclaimOf, a_recordTicket, a_recordOwner, a_recordKind, a_recordTag, a_recordHops, a_recordNeed, a_recordNext, a_slotOfTicket, a_firstRecord, a_firstWaiting, a_lastRecord, a_ownedCount, a_readyCount) (nI P, nI W, nI N, nI R, f_running, nI C, nI I, f_bound, f_last, f_digest, a_modeOf, a_depthOf, a_cursor, a_notedOf, a_passedOf, a_seenOf, a_holder, a_idled, a_stateOf, a_keys, a_values, a_kept, a_birthsOf, a_rTicket, a_rOwner, a_rKind, a_rTag, a_rHops, a_rNeed) v1 := gk_ck H.2.1.1.2 v1
  unfold wpX_pass
  refine hX _ ?_
  by_cases e : r = 0
  · obtain ⟨p, hp, rfl, hm⟩ := h0 e
    have hin : vp_in (nI p) 8 := vp_in_nI (Nat.lt_of_lt_of_le hp H.2.1.1.2) (by omega)
    refine br_t e ⟨hin, ?_⟩
    by_cases hd : a_depthOf (nI p).toNatClampNeg ≤ 0
    · refine br_t hd ⟨hin, nm_e ?_⟩
      unfold wpY_pass
      exact hY _ (br_t e ⟨hin, br_t hd ⟨hin, nm_e ⟨rfl, gk_in (gk_up4 H)⟩⟩⟩)
    · refine br_f hd ?_
      unfold wpY_pass
      exact hY _ (br_t e ⟨hin, br_f hd ⟨rfl, gk_in (gk_up4 H)⟩⟩)
  · refine br_f e ?_
    unfold wpY_pass
    exact hY _ (br_f e ⟨rfl, gk_in (gk_up4 H)⟩)
end
section
/-! bits -/
theorem gk_bt1 : ∀ i, i < 32 → bt 1 i = decide (i = 0) := by decide +kernel
theorem gk_b1 {n i : Nat} (hn : n < 32) (hi : i < 32) : bt ((1 : Int32) <<< (nI n &&& 31)) i = decide (i = n) := by
  rw [b_shl n hn _ hi]
  by_cases h : n ≤ i
  · rw [gk_bt1 _ (by omega), decide_eq_true h, Bool.true_and]
    exact decide_eq_decide.mpr (by omega)
  · rw [decide_eq_false h, Bool.false_and, decide_eq_false (by omega)]
theorem gk_bn (x : Int32) {i : Nat} (hi : i < 32) : bt (x ^^^ (-1)) i = !bt x i := by
  rw [b_xor, b_m1 i hi]; cases bt x i <;> rfl
theorem gk_z0 {x : Int32} : x = 0 ↔ ∀ i, i < 32 → bt x i = false := by
  constructor
  · rintro rfl i _; exact b_0 i
  · intro h; exact b_ext (fun i hi => by rw [h i hi, b_0])
theorem gk_odd {y : Int32} : y &&& 1 = 0 ↔ bt y 0 = false := by
  rw [gk_z0]
  constructor
  · intro h
    have := h 0 (by omega)
    rw [b_and, gk_bt1 0 (by omega)] at this
    simpa using this
  · intro h i hi
    rw [b_and, gk_bt1 i hi]
    by_cases e : i = 0
    · subst e; simp [h]
    · simp [e]
theorem gk_odd1 {y : Int32} (h : bt y 0 = true) : y &&& 1 = 1 := by
  apply b_ext; intro i hi
  rw [b_and, gk_bt1 i hi]
  by_cases e : i = 0
  · subst e; simp [h]
  · simp [e]
theorem gk_shb {x : Int32} {j : Nat} (hj : j < 32) : bt (x >>> (nI j &&& 31)) 0 = bt x j := by
  rw [b_sshr j hj x (by omega)]; simp [hj]
theorem gk_sh0 {x : Int32} {j : Nat} (hj : j < 32) : (x >>> (nI j &&& 31)) &&& 1 = 0 ↔ bt x j = false := by
  rw [gk_odd, gk_shb hj]
theorem gk_and1 {x : Int32} {n : Nat} (hn : n < 32) : x &&& ((1 : Int32) <<< (nI n &&& 31)) = 0 ↔ bt x n = false := by
  rw [gk_z0]
  constructor
  · intro h
    have := h n hn
    rw [b_and, gk_b1 hn hn] at this
    simpa using this
  · intro h i hi
    rw [b_and, gk_b1 hn hi]
    by_cases e : i = n
    · subst e; simp [h]
    · simp [e]
theorem gk_shift (x : Int32) {j : Nat} (hj : j < 32) : (x >>> (nI j &&& 31)) &&& 1 = nI (if bt x j then 1 else 0) := by
  cases h : bt x j with
  | false => rw [if_neg (by simp)]; exact (gk_sh0 hj).mpr h
  | true => rw [if_pos rfl]; exact gk_odd1 (by rw [gk_shb hj, h])
/-! counts -/
def gk_cn (f : Nat → Bool) : Nat → Nat
  | 0 => 0
  | n + 1 => gk_cn f n + (if f n then 1 else 0)
theorem gk_cn_s (f : Nat → Bool) (n : Nat) : gk_cn f (n + 1) = gk_cn f n + (if f n then 1 else 0) := rfl
theorem gk_cn_le (f : Nat → Bool) (n : Nat) : gk_cn f n ≤ n := by
  induction n with
  | zero => exact Nat.le_refl 0
  | succ n ih => rw [gk_cn_s]; split <;> omega
theorem gk_cn_c {f g : Nat → Bool} {n : Nat} (h : ∀ i, i < n → f i = g i) : gk_cn f n = gk_cn g n := by
  induction n with
  | zero => rfl
  | succ n ih => rw [gk_cn_s, gk_cn_s, ih (fun i hi => h i (by omega)), h n (by omega)]
theorem gk_cn_cut {f : Nat → Bool} {n : Nat} (h : ∀ i, n ≤ i → f i = false) : ∀ m, n ≤ m → gk_cn f m = gk_cn f n := by
  intro m hm
  induction m with
  | zero => rw [show n = 0 from by omega]
  | succ m ih =>
    by_cases e : n = m + 1
    · rw [e]
    · rw [gk_cn_s, ih (by omega), h m (by omega)]; simp
theorem gk_cn_add (f : Nat → Bool) (a b : Nat) : gk_cn f (a + b) = gk_cn f a + gk_cn (fun i => f (a + i)) b := by
  induction b with
  | zero => rfl
  | succ b ih => rw [← Nat.add_assoc, gk_cn_s, gk_cn_s, ih, Nat.add_assoc]
section
variable {k : Nat}
variable {P W N R G C I : Nat} {RL : List gk_Rec}
variable {f_onlineMask f_rootHeld f_freeNodes f_head f_freeSlot f_queued f_running f_newestNeed f_bound f_boundLeft f_last f_digest : Int32}
variable {a_modeOf a_depthOf a_cursorOf a_notedOf a_passedOf a_seenOf a_groupOf a_groupBit a_groupStart a_leafHeld a_leafIdled a_stateOf a_keyOf a_valueOf a_linkOf a_birthsOf a_reclaimOf a_recordTicket a_recordOwner a_recordKind a_recordTag a_recordHops a_recordNeed a_recordNext a_slotOfTicket a_firstRecord a_firstWaiting a_lastRecord a_ownedCount a_readyCount a_cursor a_holder a_idled a_keys a_values a_kept a_rTicket a_rOwner a_rKind a_rTag a_rHops a_rNeed : Nat → Int32}
theorem gk_xlow_l {post : Int32 → Prop} {m : Int32} (h1 : ∀ b, b < 16 → bt m b = true → (∀ j, j < b → bt m j = false) → post (nI b)) (h0 : (∀ j, j < 16 → bt m j = false) → post (-1)) :
    ∀ n j, 16 - j < n → j ≤ 16 → (∀ i, i < j → bt m i = false) → wX_lowestBit_2 post m (nI P) (nI N) (nI R) (nI G) f_onlineMask f_rootHeld f_freeNodes f_head f_freeSlot f_queued f_running (nI C) (nI I) f_newestNeed f_bound f_boundLeft f_last f_digest a_modeOf a_depthOf a_cursorOf a_notedOf a_passedOf a_seenOf a_groupOf a_groupBit a_groupStart a_leafHeld a_leafIdled a_stateOf a_keyOf a_valueOf a_linkOf a_birthsOf a_reclaimOf a_recordTicket a_recordOwner a_recordKind a_recordTag a_recordHops a_recordNeed a_recordNext a_slotOfTicket a_firstRecord a_firstWaiting a_lastRecord a_ownedCount a_readyCount n (nI j) := by
  intro n
  induction n with
  | zero => intro j h; omega
  | succ n ih =>
    intro j hn hj hb
    by_cases e : j = 16
    · subst e
      exact br_t (gk_lerf _) (h0 hb)
    · have hlt : j < 16 := by omega
      refine br_f (nI_ge (b := 16) hlt (by omega)) ?_
      cases c : bt m j with
      | false =>
        refine br_t ((gk_sh0 (by omega)).mpr c) (nm_r (nI_1 j) ?_)
        refine ih (j + 1) (by omega) (by omega) ?_
        intro i hi
        by_cases ei : i = j
        · rw [ei]; exact c
        · exact hb i (by omega)
      | true =>
        exact br_f (by rw [gk_sh0 (by omega), c]; simp) (h1 j hlt c hb)
theorem gk_xlow {post : Int32 → Prop} {m : Int32} (h1 : ∀ b, b < 16 → bt m b = true → (∀ j, j < b → bt m j = false) → post (nI b)) (h0 : (∀ j, j < 16 → bt m j = false) → post (-1)) :
    wpX_lowestBit post (nI P, nI N, nI R, nI G, f_onlineMask, f_rootHeld, f_freeNodes, f_head, f_freeSlot, f_queued, f_running, nI C, nI I, f_newestNeed, f_bound, f_boundLeft, f_last, f_digest, a_modeOf, a_depthOf, a_cursorOf, a_notedOf, a_passedOf, a_seenOf, a_groupOf, a_groupBit, a_groupStart, a_leafHeld, a_leafIdled, a_stateOf, a_keyOf, a_valueOf, a_linkOf, a_birthsOf, a_reclaimOf, a_recordTicket, a_recordOwner, a_recordKind, a_recordTag, a_recordHops, a_recordNeed, a_recordNext, a_slotOfTicket, a_firstRecord, a_firstWaiting, a_lastRecord, a_ownedCount, a_readyCount) m :=
  ⟨17, gk_xlow_l h1 h0 17 0 (by omega) (by omega) (fun i hi => absurd hi (by omega))⟩
theorem gk_xcnt_l {post : Int32 → Prop} {m : Int32} (h : post (nI (gk_cn (bt m) 16))) :
    ∀ n j, 16 - j < n → j ≤ 16 → wX_countBits_4 post m (nI P) (nI N) (nI R) (nI G) f_onlineMask f_rootHeld f_freeNodes f_head f_freeSlot f_queued f_running (nI C) (nI I) f_newestNeed f_bound f_boundLeft f_last f_digest a_modeOf a_depthOf a_cursorOf a_notedOf a_passedOf a_seenOf a_groupOf a_groupBit a_groupStart a_leafHeld a_leafIdled a_stateOf a_keyOf a_valueOf a_linkOf a_birthsOf a_reclaimOf a_recordTicket a_recordOwner a_recordKind a_recordTag a_recordHops a_recordNeed a_recordNext a_slotOfTicket a_firstRecord a_firstWaiting a_lastRecord a_ownedCount a_readyCount n (nI (gk_cn (bt m) j)) (nI j) := by
  intro n
  induction n with
  | zero => intro j h; omega
  | succ n ih =>
    intro j hn hj
    by_cases e : j = 16
    · subst e
      exact br_t (gk_lerf _) h
    · have hlt : j < 16 := by omega
      refine br_f (nI_ge (b := 16) hlt (by omega)) ?_
      refine nm_r (e' := nI (gk_cn (bt m) (j + 1))) ?_ (nm_r (nI_1 j) ?_)
      · rw [gk_shift m (by omega), nI_add, gk_cn_s]
      · exact ih (j + 1) (by omega) (by omega)
theorem gk_xcnt {post : Int32 → Prop} {m : Int32} (h : post (nI (gk_cn (bt m) 16))) : wpX_countBits post (nI P, nI N, nI R, nI G, f_onlineMask, f_rootHeld, f_freeNodes, f_head, f_freeSlot, f_queued, f_running, nI C, nI I, f_newestNeed, f_bound, f_boundLeft, f_last, f_digest, a_modeOf, a_depthOf, a_cursorOf, a_notedOf, a_passedOf, a_seenOf, a_groupOf, a_groupBit, a_groupStart, a_leafHeld, a_leafIdled, a_stateOf, a_keyOf, a_valueOf, a_linkOf, a_birthsOf, a_reclaimOf, a_recordTicket, a_recordOwner, a_recordKind, a_recordTag, a_recordHops, a_recordNeed, a_recordNext, a_slotOfTicket, a_firstRecord, a_firstWaiting, a_lastRecord, a_ownedCount, a_readyCount) m :=
  ⟨17, gk_xcnt_l h 17 0 (by omega) (by omega)⟩
end
end
section
theorem gk_grp {W g i : Nat} (hi : i < W) : (g * W + i) / W = g ∧ (g * W + i) % W = i := by
  constructor
  · rw [Nat.mul_comm, Nat.mul_add_div (by omega), Nat.div_eq_of_lt hi, Nat.add_zero]
  · rw [Nat.mul_comm, Nat.mul_add_mod, Nat.mod_eq_of_lt hi]
theorem gk_pq {W p : Nat} (hW : 0 < W) : p / W * W + p % W = p := by
  rw [Nat.mul_comm]; exact Nat.div_add_mod p W
def gk_rh (g : Nat) (bits : Int32) (lH : Nat → Int32) (rH : Int32) : Int32 :=
  if lH g &&& (bits ^^^ (-1)) = 0 then rH &&& (((1 : Int32) <<< (nI g &&& 31)) ^^^ (-1)) else rH
section
variable {k : Nat}
variable {P W N R G C I : Nat} {RL : List gk_Rec}
variable {f_onlineMask f_rootHeld f_freeNodes f_head f_freeSlot f_queued f_running f_newestNeed f_bound f_boundLeft f_last f_digest : Int32}
variable {a_modeOf a_depthOf a_cursorOf a_notedOf a_passedOf a_seenOf a_groupOf a_groupBit a_groupStart a_leafHeld a_leafIdled a_stateOf a_keyOf a_valueOf a_linkOf a_birthsOf a_reclaimOf a_recordTicket a_recordOwner a_recordKind a_recordTag a_recordHops a_recordNeed a_recordNext a_slotOfTicket a_firstRecord a_firstWaiting a_lastRecord a_ownedCount a_readyCount a_cursor a_holder a_idled a_keys a_values a_kept a_rTicket a_rOwner a_rKind a_rTag a_rHops a_rNeed : Nat → Int32}
theorem gk_hb_f {p : Nat} (h : p < P) : gk_hb P a_holder p = decide (a_holder p ≠ 0) := by
  unfold gk_hb; rw [decide_eq_true h, Bool.true_and]
theorem gk_hb_o {p : Nat} (h : P ≤ p) : gk_hb P a_holder p = false := by
  unfold gk_hb; rw [decide_eq_false (by omega), Bool.false_and]
theorem gk_hb_z {p : Nat} (h : p < P) : gk_hb P a_holder p = false ↔ a_holder p = 0 := by
  rw [gk_hb_f h]; simp
theorem gk_xrg {post : SX → Prop} {g : Nat} {bits : Int32} (hg : g < 4)
    (h : post (nI P, nI N, nI R, nI G, f_onlineMask, gk_rh g bits a_leafHeld f_rootHeld, f_freeNodes, f_head, f_freeSlot, f_queued, f_running, nI C, nI I, f_newestNeed, f_bound, f_boundLeft, f_last, f_digest, a_modeOf, a_depthOf, a_cursorOf, a_notedOf, a_passedOf, a_seenOf, a_groupOf, a_groupBit, a_groupStart, upd a_leafHeld g (a_leafHeld g &&& (bits ^^^ (-1))), upd a_leafIdled g (a_leafIdled g &&& (bits ^^^ (-1))), a_stateOf, a_keyOf, a_valueOf, a_linkOf, a_birthsOf, a_reclaimOf, a_recordTicket, a_recordOwner, a_recordKind, a_recordTag, a_recordHops, a_recordNeed, a_recordNext, a_slotOfTicket, a_firstRecord, a_firstWaiting, a_lastRecord, a_ownedCount, a_readyCount)) :
    wpX_releaseFromGroup post (nI P, nI N, nI R, nI G, f_onlineMask, f_rootHeld, f_freeNodes, f_head, f_freeSlot, f_queued, f_running, nI C, nI I, f_newestNeed, f_bound, f_boundLeft, f_last, f_digest, a_modeOf, a_depthOf, a_cursorOf, a_notedOf, a_passedOf, a_seenOf, a_groupOf, a_groupBit, a_groupStart, a_leafHeld, a_leafIdled, a_stateOf, a_keyOf, a_valueOf, a_linkOf, a_birthsOf, a_reclaimOf, a_recordTicket, a_recordOwner, a_recordKind, a_recordTag, a_recordHops, a_recordNeed, a_recordNext, a_slotOfTicket, a_firstRecord, a_firstWaiting, a_lastRecord, a_ownedCount, a_readyCount) (nI g) bits := by
  have hin : vp_in (nI g) 4 := vp_in_nI hg (by omega)
  have c : (nI g).toNatClampNeg = g := nI_clamp (by omega)
  refine ⟨hin, hin, nm_r (e' := upd a_leafHeld g (a_leafHeld g &&& (bits ^^^ (-1)))) (by rw [c]) ⟨hin, hin, nm_r (e' := upd a_leafIdled g (a_leafIdled g &&& (bits ^^^ (-1)))) (by rw [c]) ⟨hin, ?_⟩⟩⟩
  by_cases z : a_leafHeld g &&& (bits ^^^ (-1)) = 0
  · refine br_t (by rw [c, pk_us]; exact z) (nm_e ?_)
    unfold gk_rh at h
    rw [if_pos z] at h
    exact h
  · refine br_f (by rw [c, pk_us]; exact z) ?_
    unfold gk_rh at h
    rw [if_neg z] at h
    exact h
theorem gk_H_rel {g : Nat} {bits : Int32} {holder' : Nat → Int32} (hg : g < 4) (hW : 2 ≤ W ∧ W ≤ 4) (H : (gk_H P W f_running f_rootHeld a_leafHeld a_leafIdled a_holder a_idled))
    (hh : ∀ q, q < P → gk_hb P holder' q = (gk_hb P a_holder q && !(decide (q / W = g) && bt bits (q % W)))) :
    (gk_H P W f_running (gk_rh g bits a_leafHeld f_rootHeld) (upd a_leafHeld g (a_leafHeld g &&& (bits ^^^ (-1)))) (upd a_leafIdled g (a_leafIdled g &&& (bits ^^^ (-1)))) holder' a_idled) := by
  obtain ⟨h1, h2, h3, h4⟩ := H
  have hg' : ∀ q, gk_hb P holder' q = (gk_hb P a_holder q && !(decide (q / W = g) && bt bits (q % W))) := by
    intro q
    by_cases e : q < P
    · exact hh q e
    · rw [gk_hb_o (by omega), gk_hb_o (by omega), Bool.false_and]
  refine ⟨?_, ?_, ?_, ?_⟩
  · intro g' hg4 i hi
    by_cases e : i < W
    · rw [hg', (gk_grp e).1, (gk_grp e).2]
      by_cases eg : g' = g
      · subst eg
        rw [pk_us, b_and, gk_bn _ hi, h1 _ hg4 i hi]
        simp [e]
      · rw [pk_un eg, h1 _ hg4 i hi]
        simp [e, eg]
    · rw [decide_eq_false e, Bool.false_and]
      by_cases eg : g' = g
      · subst eg
        rw [pk_us, b_and, h1 _ hg4 i hi]
        simp [e]
      · rw [pk_un eg, h1 _ hg4 i hi]
        simp [e]
  · intro g' hg4 i hi
    by_cases e : i < W
    · unfold gk_ib at *
      rw [hg', (gk_grp e).1, (gk_grp e).2]
      by_cases eg : g' = g
      · subst eg
        rw [pk_us, b_and, gk_bn _ hi, h2 _ hg4 i hi]
        simp [e, Bool.and_assoc, Bool.and_comm, Bool.and_left_comm]
      · rw [pk_un eg, h2 _ hg4 i hi]
        simp [e, eg]
    · rw [decide_eq_false e, Bool.false_and]
      by_cases eg : g' = g
      · subst eg
        rw [pk_us, b_and, h2 _ hg4 i hi]
        simp [e]
      · rw [pk_un eg, h2 _ hg4 i hi]
        simp [e]
  · intro g' hg'
    unfold gk_rh
    by_cases z : a_leafHeld g &&& (bits ^^^ (-1)) = 0
    · rw [if_pos z, b_and, gk_bn _ hg', gk_b1 (by omega) hg', h3 g' hg']
      by_cases eg : g' = g
      · subst eg; rw [pk_us, z]; simp
      · rw [pk_un eg]; simp [eg]
    · rw [if_neg z, h3 g' hg']
      by_cases eg : g' = g
      · subst eg
        rw [pk_us, decide_eq_true z]
        have : a_leafHeld g' ≠ 0 := by
          intro e0; apply z; rw [e0]
          exact gk_z0.mpr (fun i _ => by rw [b_and, b_0, Bool.false_and])
        rw [decide_eq_true this]
      · rw [pk_un eg]
  · intro hr p hp
    have := hg' p
    rw [(gk_hb_z hp).mpr (h4 hr p hp), Bool.false_and] at this
    exact (gk_hb_z hp).mp this
theorem gk_grpP {p : Nat} (hC : (gk_C P W N R G a_groupOf a_groupBit a_groupStart)) (hp : p < P) : p / W < 4 ∧ p % W < 32 ∧ 0 < W ∧ p % W < W := by
  obtain ⟨c1, c2, c3, c4, c5, c6, c7⟩ := hC
  have h1 : p % W < W := Nat.mod_lt _ (by omega)
  refine ⟨?_, by omega, by omega, h1⟩
  rw [Nat.div_lt_iff_lt_mul (by omega)]
  omega
theorem gk_xrel {post : SX → Prop} {p : Nat} (hp : p < P) (hC : (gk_C P W N R G a_groupOf a_groupBit a_groupStart)) (H : (gk_H P W f_running f_rootHeld a_leafHeld a_leafIdled a_holder a_idled))
    (K : ∀ rH lH lI, (gk_H P W f_running rH lH lI (upd a_holder p 0) a_idled) → post (nI P, nI N, nI R, nI G, f_onlineMask, rH, f_freeNodes, f_head, f_freeSlot, f_queued, f_running, nI C, nI I, f_newestNeed, f_bound, f_boundLeft, f_last, f_digest, a_modeOf, a_depthOf, a_cursorOf, a_notedOf, a_passedOf, a_seenOf, a_groupOf, a_groupBit, a_groupStart, lH, lI, a_stateOf, a_keyOf, a_valueOf, a_linkOf, a_birthsOf, a_reclaimOf, a_recordTicket, a_recordOwner, a_recordKind, a_recordTag, a_recordHops, a_recordNeed, a_recordNext, a_slotOfTicket, a_firstRecord, a_firstWaiting, a_lastRecord, a_ownedCount, a_readyCount)) :
    wpX_release post (nI P, nI N, nI R, nI G, f_onlineMask, f_rootHeld, f_freeNodes, f_head, f_freeSlot, f_queued, f_running, nI C, nI I, f_newestNeed, f_bound, f_boundLeft, f_last, f_digest, a_modeOf, a_depthOf, a_cursorOf, a_notedOf, a_passedOf, a_seenOf, a_groupOf, a_groupBit, a_groupStart, a_leafHeld, a_leafIdled, a_stateOf, a_keyOf, a_valueOf, a_linkOf, a_birthsOf, a_reclaimOf, a_recordTicket, a_recordOwner, a_recordKind, a_recordTag, a_recordHops, a_recordNeed, a_recordNext, a_slotOfTicket, a_firstRecord, a_firstWaiting, a_lastRecord, a_ownedCount, a_readyCount) (nI p) := by
  obtain ⟨hg, hb, hW, hm⟩ := gk_grpP hC hp
  have hP8 := hC.1.2
  have hin : vp_in (nI p) 8 := vp_in_nI (by omega) (by omega)
  have c : (nI p).toNatClampNeg = p := nI_clamp (by omega)
  refine ⟨hin, hin, ?_⟩
  rw [c, (hC.2.2.2.2.2.1 p hp).1, (hC.2.2.2.2.2.1 p hp).2]
  refine gk_xrg hg (K _ _ _ (gk_H_rel hg hC.2.1 H ?_))
  intro q hq
  rw [gk_hb_f hq, gk_hb_f hq]
  have hq2 : q % W < 32 := by have := Nat.mod_lt q hW; have := hC.2.1.2; omega
  rw [gk_b1 hb hq2]
  by_cases e : q = p
  · subst e; rw [pk_us]; simp
  · rw [pk_un e]
    have : ¬ (q / W = p / W ∧ q % W = p % W) := by
      rintro ⟨e1, e2⟩
      apply e
      rw [← gk_pq (W := W) (p := q) hW, ← gk_pq (W := W) (p := p) hW, e1, e2]
    by_cases e1 : q / W = p / W
    · have e2 : ¬ q % W = p % W := fun z => this ⟨e1, z⟩
      simp [e2]
    · simp [e1]
theorem gk_hbit {p : Nat} (hp : p < P) (hC : (gk_C P W N R G a_groupOf a_groupBit a_groupStart)) (H : (gk_H P W f_running f_rootHeld a_leafHeld a_leafIdled a_holder a_idled)) : bt (a_leafHeld (p / W)) (p % W) = gk_hb P a_holder p ∧ bt (a_leafIdled (p / W)) (p % W) = gk_ib P a_holder a_idled p := by
  obtain ⟨hg, hb, hW, hm⟩ := gk_grpP hC hp
  rw [H.1 _ hg _ hb, H.2.1 _ hg _ hb, gk_pq hW, decide_eq_true hm]
  exact ⟨rfl, rfl⟩
theorem gk_xih {post : Int32 → Prop} {p : Nat} (hp : p < P) (hC : (gk_C P W N R G a_groupOf a_groupBit a_groupStart)) (H : (gk_H P W f_running f_rootHeld a_leafHeld a_leafIdled a_holder a_idled)) (h0 : a_holder p = 0 → post 0) (h1 : ¬ a_holder p = 0 → post 1) :
    wpX_isHolder post (nI P, nI N, nI R, nI G, f_onlineMask, f_rootHeld, f_freeNodes, f_head, f_freeSlot, f_queued, f_running, nI C, nI I, f_newestNeed, f_bound, f_boundLeft, f_last, f_digest, a_modeOf, a_depthOf, a_cursorOf, a_notedOf, a_passedOf, a_seenOf, a_groupOf, a_groupBit, a_groupStart, a_leafHeld, a_leafIdled, a_stateOf, a_keyOf, a_valueOf, a_linkOf, a_birthsOf, a_reclaimOf, a_recordTicket, a_recordOwner, a_recordKind, a_recordTag, a_recordHops, a_recordNeed, a_recordNext, a_slotOfTicket, a_firstRecord, a_firstWaiting, a_lastRecord, a_ownedCount, a_readyCount) (nI p) := by
  obtain ⟨hg, hb, hW, hm⟩ := gk_grpP hC hp
  have hP8 := hC.1.2
  have hin : vp_in (nI p) 8 := vp_in_nI (by omega) (by omega)
  have c : (nI p).toNatClampNeg = p := nI_clamp (by omega)
  have cg : (nI (p / W)).toNatClampNeg = p / W := nI_clamp (by omega)
  unfold wpX_isHolder
  dsimp only
  rw [c, (hC.2.2.2.2.2.1 p hp).1, (hC.2.2.2.2.2.1 p hp).2, cg, gk_and1 hb, (gk_hbit hp hC H).1, gk_hb_z hp]
  exact ⟨hin, vp_in_nI hg (by omega), hin, h0, h1⟩
theorem gk_xii {post : Int32 → Prop} {p : Nat} (hp : p < P) (hC : (gk_C P W N R G a_groupOf a_groupBit a_groupStart)) (H : (gk_H P W f_running f_rootHeld a_leafHeld a_leafIdled a_holder a_idled)) (h0 : gk_ib P a_holder a_idled p = false → post 0) (h1 : ¬ gk_ib P a_holder a_idled p = false → post 1) :
    wpX_isIdledHolder post (nI P, nI N, nI R, nI G, f_onlineMask, f_rootHeld, f_freeNodes, f_head, f_freeSlot, f_queued, f_running, nI C, nI I, f_newestNeed, f_bound, f_boundLeft, f_last, f_digest, a_modeOf, a_depthOf, a_cursorOf, a_notedOf, a_passedOf, a_seenOf, a_groupOf, a_groupBit, a_groupStart, a_leafHeld, a_leafIdled, a_stateOf, a_keyOf, a_valueOf, a_linkOf, a_birthsOf, a_reclaimOf, a_recordTicket, a_recordOwner, a_recordKind, a_recordTag, a_recordHops, a_recordNeed, a_recordNext, a_slotOfTicket, a_firstRecord, a_firstWaiting, a_lastRecord, a_ownedCount, a_readyCount) (nI p) := by
  obtain ⟨hg, hb, hW, hm⟩ := gk_grpP hC hp
  have hP8 := hC.1.2
  have hin : vp_in (nI p) 8 := vp_in_nI (by omega) (by omega)
  have c : (nI p).toNatClampNeg = p := nI_clamp (by omega)
  have cg : (nI (p / W)).toNatClampNeg = p / W := nI_clamp (by omega)
  unfold wpX_isIdledHolder
  dsimp only
  rw [c, (hC.2.2.2.2.2.1 p hp).1, (hC.2.2.2.2.2.1 p hp).2]
  refine ⟨hin, nm_e ?_⟩
  rw [cg, gk_and1 hb, b_and, (gk_hbit hp hC H).1, (gk_hbit hp hC H).2]
  have e : (gk_hb P a_holder p && gk_ib P a_holder a_idled p) = gk_ib P a_holder a_idled p := by
    unfold gk_ib; cases gk_hb P a_holder p <;> rfl
  rw [e]
  exact ⟨vp_in_nI hg (by omega), vp_in_nI hg (by omega), hin, h0, h1⟩
end
end
section
/-- the need of a record queued now -/
def gk_nn (run : Int32) (C : Nat) : Int32 := if run = 0 then nI (C + 1) else nI (C + 2)
theorem gk_d_s {a b c d e f : Nat → Int32} {x1 x2 x3 x4 x5 x6 : Int32} {s : Nat} : gk_d (upd a s x1) (upd b s x2) (upd c s x3) (upd d s x4) (upd e s x5) (upd f s x6) s = (x1, x2, x3, x4, x5, x6) := by
  unfold gk_d; rw [pk_us, pk_us, pk_us, pk_us, pk_us, pk_us]
theorem gk_d_n {a b c d e f : Nat → Int32} {x1 x2 x3 x4 x5 x6 : Int32} {s j : Nat} (h : j ≠ s) : gk_d (upd a s x1) (upd b s x2) (upd c s x3) (upd d s x4) (upd e s x5) (upd f s x6) j = gk_d a b c d e f j := by
  unfold gk_d; rw [pk_un h, pk_un h, pk_un h, pk_un h, pk_un h, pk_un h]
theorem gk_nn_le (run : Int32) {C : Nat} (hC : C ≤ 1000) : nI C < gk_nn run C ∧ gk_nn run C ≤ nI (C + 2) ∧ (run = 0 → gk_nn run C ≤ nI (C + 1)) := by
  unfold gk_nn
  by_cases h : run = 0
  · rw [if_pos h]
    exact ⟨nI_lt (by omega) (by omega), nI_le (by omega) (by omega), fun _ => gk_lerf _⟩
  · rw [if_neg h]
    exact ⟨nI_lt (by omega) (by omega), gk_lerf _, fun z => absurd z h⟩
/-- a slot at the end of p's list -/
theorem gk_L0_app {R : Nat} {RL : List gk_Rec} {d d' : Nat → gk_Rec} {nx nx' sot sot' : Nat → Int32} {fr la oc fr' la' oc' : Int32} {p s : Nat} {L : List Nat} {r : gk_Rec}
    (H : gk_L0 R RL d nx sot fr la oc p L) (hn : L.Nodup) (hs : s ∉ L) (hR : s < R) (hr : r.2.1 = nI p) (hds : d' s = r) (hd : ∀ j, j ≠ s → d' j = d j)
    (hnx : nx' s = -1) (hno : ∀ j, j ∈ L → (∀ l, L ≠ l ++ [j]) → nx' j = nx j) (hnt : ∀ l t, L = l ++ [t] → nx' t = nI s)
    (hso : ∀ j, j ∈ L → sot' (d j).1.toNatClampNeg = sot (d j).1.toNatClampNeg) (hss : sot' r.1.toNatClampNeg = nI (s + 1))
    (hfr : fr' = gk_hd (-1) (L ++ [s])) (hla : la' = nI s) (hoc : oc' = nI (L.length + 1)) :
    gk_L0 R (RL ++ [r]) d' nx' sot' fr' la' oc' p (L ++ [s]) := by
  obtain ⟨h1, h2, h3, h4, h5, h6, h7⟩ := H
  have hne : ∀ j, j ∈ L → j ≠ s := fun j hj e => hs (e ▸ hj)
  refine ⟨?_, ?_, ?_, hfr, by rw [gk_la_c]; exact hla, by rw [hoc]; simp, ?_⟩
  · rw [List.map_append, List.filter_append, ← h1, List.map_congr_left (fun j hj => hd j (hne j hj))]
    simp [hds, gk_ow_t hr]
  · intro j hj
    rcases List.mem_append.mp hj with hj | hj
    · exact h2 j hj
    · rw [List.mem_singleton.mp hj]; exact hR
  · rcases gk_snoc L with rfl | ⟨l, t, rfl⟩
    · exact ⟨hnx, trivial⟩
    · have hl : t ∉ l := by
        rw [List.nodup_append] at hn
        intro ht
        exact hn.2.2 t ht t (by simp) rfl
      rw [gk_sg_app]
      refine ⟨?_, hnx, trivial⟩
      rw [gk_sg_app] at h3 ⊢
      refine ⟨gk_sg_c ?_ h3.1, hnt l t rfl, trivial⟩
      intro j hj
      apply hno j (by simp [hj])
      intro l' e
      have := (List.append_inj' e rfl).2
      simp at this
      exact hl (this ▸ hj)
  · intro j hj
    rcases List.mem_append.mp hj with hj | hj
    · rw [hd j (hne j hj), hso j hj]; exact h7 j hj
    · rw [List.mem_singleton.mp hj, hds]; exact hss
section
variable {k : Nat}
variable {P W N R G C I : Nat} {RL : List gk_Rec}
variable {f_onlineMask f_rootHeld f_freeNodes f_head f_freeSlot f_queued f_running f_newestNeed f_bound f_boundLeft f_last f_digest : Int32}
variable {a_modeOf a_depthOf a_cursorOf a_notedOf a_passedOf a_seenOf a_groupOf a_groupBit a_groupStart a_leafHeld a_leafIdled a_stateOf a_keyOf a_valueOf a_linkOf a_birthsOf a_reclaimOf a_recordTicket a_recordOwner a_recordKind a_recordTag a_recordHops a_recordNeed a_recordNext a_slotOfTicket a_firstRecord a_firstWaiting a_lastRecord a_ownedCount a_readyCount a_cursor a_holder a_idled a_keys a_values a_kept a_rTicket a_rOwner a_rKind a_rTag a_rHops a_rNeed : Nat → Int32}
/-- the pure part of queueing a record -/
theorem gk_XQ_app {p s : Nat} {FL A B : List Nat} {kind tag hops : Int32} {tk' ow' kd' tg' hp' nd' nx' sot' fr' fw' la' oc' : Nat → Int32}
    (hC : C ≤ 1000) (hI : I < 30000) (hp : p < P) (hP : P ≤ 8) (hR : R ≤ 24) (hm : a_modeOf p ≠ 0) (hk : kind = 1 ∨ kind = 2)
    (hsn : a_seenOf p ≤ nI C)
    (HA : (gk_QA P C I f_running f_newestNeed a_modeOf RL)) (HB : (gk_QB P R a_recordTicket a_recordOwner a_recordKind a_recordTag a_recordHops a_recordNeed a_recordNext a_slotOfTicket a_seenOf a_firstRecord a_firstWaiting a_lastRecord a_ownedCount a_readyCount RL)) (HD : (gk_QD I a_slotOfTicket RL)) (HS : (gk_QS I f_queued f_bound f_boundLeft RL))
    (F1 : gk_sg a_recordNext (-1) (s :: FL)) (F2 : (s :: FL).Nodup) (F3 : (s :: FL).length + RL.length = R)
    (F4 : ∀ j, j ∈ s :: FL → j < R ∧ ((gk_d a_recordTicket a_recordOwner a_recordKind a_recordTag a_recordHops a_recordNeed) j).1 ≤ nI I ∧ ∀ r, r ∈ RL → r.1 ≠ ((gk_d a_recordTicket a_recordOwner a_recordKind a_recordTag a_recordHops a_recordNeed) j).1)
    (HL : gk_QL R RL (gk_d a_recordTicket a_recordOwner a_recordKind a_recordTag a_recordHops a_recordNeed) a_recordNext a_slotOfTicket (a_seenOf p) (a_firstRecord p) (a_firstWaiting p) (a_lastRecord p) (a_ownedCount p) (a_readyCount p) p A B)
    (hds : gk_d tk' ow' kd' tg' hp' nd' s = (nI (I + 1), nI p, kind, tag, hops, gk_nn f_running C)) (hd : ∀ j, j ≠ s → gk_d tk' ow' kd' tg' hp' nd' j = (gk_d a_recordTicket a_recordOwner a_recordKind a_recordTag a_recordHops a_recordNeed) j)
    (hnx : nx' s = -1) (hno : ∀ j, j ≠ s → (∀ l, A ++ B ≠ l ++ [j]) → nx' j = a_recordNext j) (hnt : ∀ l t, A ++ B = l ++ [t] → nx' t = nI s)
    (hso : ∀ j, j ≠ I + 1 → sot' j = a_slotOfTicket j) (hss : sot' (I + 1) = nI (s + 1))
    (hfr : fr' p = gk_hd (-1) (A ++ (B ++ [s]))) (hfr' : ∀ q, q ≠ p → fr' q = a_firstRecord q)
    (hfw : fw' p = gk_hd (-1) (B ++ [s])) (hfw' : ∀ q, q ≠ p → fw' q = a_firstWaiting q)
    (hla : la' p = nI s) (hla' : ∀ q, q ≠ p → la' q = a_lastRecord q)
    (hoc : oc' p = nI ((A ++ B).length + 1)) (hoc' : ∀ q, q ≠ p → oc' q = a_ownedCount q) :
    (gk_XQ P C (I + 1) f_running (gk_nn f_running C) a_modeOf (RL ++ [(nI (I + 1), nI p, kind, tag, hops, gk_nn f_running C)]) R tk' ow' kd' tg' hp' nd' nx' sot' a_seenOf fr' fw' la' oc' a_readyCount (gk_hd (-1) FL) (nI (RL.length + 1)) f_bound f_boundLeft) := by
  obtain ⟨a1, a2, a3, a4, a5, a6⟩ := HA
  obtain ⟨n1, n2, n3⟩ := gk_nn_le f_running hC
  have hnew : f_newestNeed ≤ gk_nn f_running C := by
    unfold gk_nn
    by_cases h : f_running = 0
    · rw [if_pos h]; exact a5 h
    · rw [if_neg h]; exact a4
  have hII : nI I < nI (I + 1) := nI_lt (by omega) (by omega)
  have htk : ∀ r, r ∈ RL → r.1.toNatClampNeg ≠ I + 1 := by
    intro r hr e
    have h1 := a2 r hr
    have h2 := h1.2.1
    rw [Int32.le_iff_toInt_le, nI_toInt (by omega)] at h2
    have h3 : (r.1.toNatClampNeg : Int) = r.1.toInt := by
      have h4 := h1.1
      rw [Int32.lt_iff_toInt_lt] at h4
      have h5 : (0 : Int32).toInt = 0 := by decide
      rw [h5] at h4
      unfold Int32.toNatClampNeg
      omega
    omega
  have sL : ∀ q A' B', q < P → gk_QL R RL (gk_d a_recordTicket a_recordOwner a_recordKind a_recordTag a_recordHops a_recordNeed) a_recordNext a_slotOfTicket (a_seenOf q) (a_firstRecord q) (a_firstWaiting q) (a_lastRecord q) (a_ownedCount q) (a_readyCount q) q A' B' → s ∉ A' ++ B' := by
    intro q A' B' hq H' hs
    exact (F4 s (by simp)).2.2 _ (gk_L0_mem H'.1 hs).1 rfl
  have hsAB := sL p A B hp HL
  refine ⟨⟨?_, ?_, ?_, n2, n3, by omega⟩, ?_, ?_, ?_, ?_⟩
  · rw [List.pairwise_append]
    refine ⟨a1, by simp, ?_⟩
    intro a ha b hb
    rw [List.mem_singleton.mp hb]
    exact ⟨gk_lelt (a2 a ha).2.1 hII, gk_let (a2 a ha).2.2.2.1 hnew⟩
  · intro r hr
    rcases List.mem_append.mp hr with hr | hr
    · obtain ⟨b1, b2, b3, b4, b5⟩ := a2 r hr
      exact ⟨b1, gk_let b2 (nI_le (by omega) (by omega)), b3, gk_let b4 hnew, b5⟩
    · rw [List.mem_singleton.mp hr]
      exact ⟨nI_lt (a := 0) (by omega) (by omega), gk_lerf _, hk, gk_lerf _, p, hp, hm, rfl⟩
  · intro _
    exact ⟨_, List.mem_append_right _ (List.mem_singleton.mpr rfl), rfl⟩
  · intro q hq
    by_cases e : q = p
    · subst e
      refine ⟨A, B ++ [s], ?_, hfw, HL.2.2.1, ?_, ?_⟩
      · rw [← List.append_assoc]
        refine gk_L0_app HL.1 (gk_L0_nodup a1 HL.1) hsAB (F4 s (by simp)).1 rfl hds hd hnx ?_ hnt ?_ ?_ (by rw [hfr, List.append_assoc]) hla hoc
        · intro j hj; exact hno j (fun z => hsAB (z ▸ hj))
        · intro j hj; exact hso _ (htk _ (gk_L0_mem HL.1 hj).1)
        · show sot' (nI (I + 1)).toNatClampNeg = _
          rw [nI_clamp (by omega)]; exact hss
      · intro j hj
        rw [hd j (fun z => hsAB (by rw [← z]; simp [hj]))]
        exact HL.2.2.2.1 j hj
      · intro j hj
        rcases List.mem_append.mp hj with hj | hj
        · rw [hd j (fun z => hsAB (by rw [← z]; simp [hj]))]
          exact HL.2.2.2.2 j hj
        · rw [List.mem_singleton.mp hj, hds]
          exact gk_lelt hsn n1
    · obtain ⟨A', B', H'⟩ := HB q hq
      have hs' := sL q A' B' hq H'
      rw [hfr' q e, hfw' q e, hla' q e, hoc' q e]
      refine ⟨A', B', gk_QL_frame H' ?_ ?_ ?_ ?_⟩
      · intro j hj; exact hd j (fun z => hs' (z ▸ hj))
      · intro j hj
        refine hno j (fun z => hs' (z ▸ hj)) ?_
        intro l el
        have h1 := (gk_L0_mem H'.1 hj).2
        have h2 := (gk_L0_mem HL.1 (s := j) (by rw [el]; simp)).2
        exact e (gk_inj (h1.symm.trans h2) (by omega) (by omega))
      · intro j hj; exact hso _ (htk _ (gk_L0_mem H'.1 hj).1)
      · rw [List.filter_append, List.filter_cons_of_neg, List.filter_nil, List.append_nil]
        rw [gk_ow_i]
        intro z
        exact e (gk_inj z.symm (by omega) (by omega))
  · refine ⟨FL, rfl, gk_sg_c ?_ F1.2, (List.nodup_cons.mp F2).2, ?_, ?_⟩
    · intro j hj
      refine hno j (fun z => (List.nodup_cons.mp F2).1 (z ▸ hj)) ?_
      intro l el
      exact (F4 j (by simp [hj])).2.2 _ (gk_L0_mem HL.1 (s := j) (by rw [el]; simp)).1 rfl
    · simp at F3 ⊢; omega
    · intro j hj
      have hj4 := F4 j (by simp [hj])
      rw [hd j (fun z => (List.nodup_cons.mp F2).1 (z ▸ hj))]
      refine ⟨hj4.1, gk_let hj4.2.1 (nI_le (by omega) (by omega)), ?_⟩
      intro r hr
      rcases List.mem_append.mp hr with hr | hr
      · exact hj4.2.2 r hr
      · rw [List.mem_singleton.mp hr]
        exact (gk_ltne (gk_lelt hj4.2.1 hII)).symm
  · intro t h1 h2 h3
    have hne : t ≠ I + 1 := by
      intro z
      exact h3 _ (List.mem_append_right _ (List.mem_singleton.mpr rfl)) (by rw [z])
    rw [hso t hne]
    exact HD t h1 (by omega) (fun r hr => h3 r (List.mem_append_left _ hr))
  · obtain ⟨s1, s2, s3⟩ := HS
    refine ⟨by simp, gk_let s2 (nI_le (by omega) (by omega)), ?_⟩
    rw [List.countP_append, s3]
    have : ¬ nI (I + 1) ≤ f_bound := gk_nle.mpr (gk_lelt s2 hII)
    simp [List.countP_cons, this]
theorem gk_xneed {post : Int32 → Prop} {f_iss : Int32} (h : post (gk_nn f_running C)) : wpX_needNow post (nI P, nI N, nI R, nI G, f_onlineMask, f_rootHeld, f_freeNodes, f_head, f_freeSlot, f_queued, f_running, nI C, f_iss, f_newestNeed, f_bound, f_boundLeft, f_last, f_digest, a_modeOf, a_depthOf, a_cursorOf, a_notedOf, a_passedOf, a_seenOf, a_groupOf, a_groupBit, a_groupStart, a_leafHeld, a_leafIdled, a_stateOf, a_keyOf, a_valueOf, a_linkOf, a_birthsOf, a_reclaimOf, a_recordTicket, a_recordOwner, a_recordKind, a_recordTag, a_recordHops, a_recordNeed, a_recordNext, a_slotOfTicket, a_firstRecord, a_firstWaiting, a_lastRecord, a_ownedCount, a_readyCount) := by
  unfold gk_nn at h
  by_cases z : f_running = 0
  · rw [if_pos z] at h
    exact br_t z (by rw [nI_1]; exact h)
  · rw [if_neg z] at h
    refine br_f z ?_
    rw [show (2 : Int32) = nI 2 from rfl, nI_add]
    exact h
theorem gk_yneed {post : Int32 → Prop} {f_iss : Int32} (h : post (gk_nn f_running C)) : wpY_needNow post (nI P, nI W, nI N, nI R, f_running, nI C, f_iss, f_bound, f_last, f_digest, a_modeOf, a_depthOf, a_cursor, a_notedOf, a_passedOf, a_seenOf, a_holder, a_idled, a_stateOf, a_keys, a_values, a_kept, a_birthsOf, a_rTicket, a_rOwner, a_rKind, a_rTag, a_rHops, a_rNeed) := by
  unfold gk_nn at h
  by_cases z : f_running = 0
  · rw [if_pos z] at h
    exact br_t z (by rw [nI_1]; exact h)
  · rw [if_neg z] at h
    refine br_f z ?_
    rw [show (2 : Int32) = nI 2 from rfl, nI_add]
    exact h
end
end
section
theorem gk_byte0 : ∀ n, n < 32 → ((nI n).toInt8.toInt32).toInt8.toInt32 = nI n := by decide +kernel
theorem gk_byte {n : Nat} (h : n < 32) : vp_nar .byte ((nI n).toInt8.toInt32) = nI n := by rw [vp_nar_byte]; exact gk_byte0 n h
theorem gk_byte00 : vp_nar .byte 0 = 0 := by rw [vp_nar_byte]; decide +kernel
section
variable {k : Nat}
variable {P W N R G C I : Nat} {RL : List gk_Rec}
variable {f_onlineMask f_rootHeld f_freeNodes f_head f_freeSlot f_queued f_running f_newestNeed f_bound f_boundLeft f_last f_digest : Int32}
variable {a_modeOf a_depthOf a_cursorOf a_notedOf a_passedOf a_seenOf a_groupOf a_groupBit a_groupStart a_leafHeld a_leafIdled a_stateOf a_keyOf a_valueOf a_linkOf a_birthsOf a_reclaimOf a_recordTicket a_recordOwner a_recordKind a_recordTag a_recordHops a_recordNeed a_recordNext a_slotOfTicket a_firstRecord a_firstWaiting a_lastRecord a_ownedCount a_readyCount a_cursor a_holder a_idled a_keys a_values a_kept a_rTicket a_rOwner a_rKind a_rTag a_rHops a_rNeed : Nat → Int32}
theorem gk_xapp60 {post : SX → Prop} {p n : Nat} {f_iss : Int32} (hp : p < 8) (ho : a_ownedCount p = nI n) (h : post (nI P, nI N, nI R, nI G, f_onlineMask, f_rootHeld, f_freeNodes, f_head, f_freeSlot, f_queued, f_running, nI C, f_iss, f_newestNeed, f_bound, f_boundLeft, f_last, f_digest, a_modeOf, a_depthOf, a_cursorOf, a_notedOf, a_passedOf, a_seenOf, a_groupOf, a_groupBit, a_groupStart, a_leafHeld, a_leafIdled, a_stateOf, a_keyOf, a_valueOf, a_linkOf, a_birthsOf, a_reclaimOf, a_recordTicket, a_recordOwner, a_recordKind, a_recordTag, a_recordHops, a_recordNeed, a_recordNext, a_slotOfTicket, a_firstRecord, a_firstWaiting, a_lastRecord, upd a_ownedCount p (nI (n + 1)), a_readyCount)) :
    wX_append_60 post (nI p) (nI P) (nI N) (nI R) (nI G) f_onlineMask f_rootHeld f_freeNodes f_head f_freeSlot f_queued f_running (nI C) f_iss f_newestNeed f_bound f_boundLeft f_last f_digest a_modeOf a_depthOf a_cursorOf a_notedOf a_passedOf a_seenOf a_groupOf a_groupBit a_groupStart a_leafHeld a_leafIdled a_stateOf a_keyOf a_valueOf a_linkOf a_birthsOf a_reclaimOf a_recordTicket a_recordOwner a_recordKind a_recordTag a_recordHops a_recordNeed a_recordNext a_slotOfTicket a_firstRecord a_firstWaiting a_lastRecord a_ownedCount a_readyCount := by
  have hin : vp_in (nI p) 8 := vp_in_nI hp (by omega)
  have c : (nI p).toNatClampNeg = p := nI_clamp (by omega)
  exact ⟨hin, hin, nm_r (e' := upd a_ownedCount p (nI (n + 1))) (by rw [c, ho, nI_1]) h⟩
theorem gk_xqueue {post : Int32 → SX → Prop} {p : Nat} {kind tag hops : Int32}
    (hC : C ≤ 1000) (hI : I < 30000) (hp : p < P) (hP : P ≤ 8) (hR : R ≤ 24) (hm : a_modeOf p ≠ 0) (hk : kind = 1 ∨ kind = 2)
    (hsn : a_seenOf p ≤ nI C) (room : RL.length < R) (H : (gk_XQ P C I f_running f_newestNeed a_modeOf RL R a_recordTicket a_recordOwner a_recordKind a_recordTag a_recordHops a_recordNeed a_recordNext a_slotOfTicket a_seenOf a_firstRecord a_firstWaiting a_lastRecord a_ownedCount a_readyCount f_freeSlot f_queued f_bound f_boundLeft))
    (K : ∀ fs qd tk' ow' kd' tg' hp' nd' nx' sot' fr' fw' la' oc', (gk_XQ P C (I + 1) f_running (gk_nn f_running C) a_modeOf (RL ++ [(nI (I + 1), nI p, kind, tag, hops, gk_nn f_running C)]) R tk' ow' kd' tg' hp' nd' nx' sot' a_seenOf fr' fw' la' oc' a_readyCount fs qd f_bound f_boundLeft) →
      post (nI (I + 1)) (nI P, nI N, nI R, nI G, f_onlineMask, f_rootHeld, f_freeNodes, f_head, fs, qd, f_running, nI C, nI (I + 1), gk_nn f_running C, f_bound, f_boundLeft, f_last, f_digest, a_modeOf, a_depthOf, a_cursorOf, a_notedOf, a_passedOf, a_seenOf, a_groupOf, a_groupBit, a_groupStart, a_leafHeld, a_leafIdled, a_stateOf, a_keyOf, a_valueOf, a_linkOf, a_birthsOf, a_reclaimOf, tk', ow', kd', tg', hp', nd', nx', sot', fr', fw', la', oc', a_readyCount)) :
    wpX_queueRecord post (nI P, nI N, nI R, nI G, f_onlineMask, f_rootHeld, f_freeNodes, f_head, f_freeSlot, f_queued, f_running, nI C, nI I, f_newestNeed, f_bound, f_boundLeft, f_last, f_digest, a_modeOf, a_depthOf, a_cursorOf, a_notedOf, a_passedOf, a_seenOf, a_groupOf, a_groupBit, a_groupStart, a_leafHeld, a_leafIdled, a_stateOf, a_keyOf, a_valueOf, a_linkOf, a_birthsOf, a_reclaimOf, a_recordTicket, a_recordOwner, a_recordKind, a_recordTag, a_recordHops, a_recordNeed, a_recordNext, a_slotOfTicket, a_firstRecord, a_firstWaiting, a_lastRecord, a_ownedCount, a_readyCount) (nI p) kind tag hops := by
  obtain ⟨HA, HB, ⟨FL, e1, F1, F2, F3, F4⟩, HD, HS⟩ := H
  cases FL with
  | nil => simp at F3; omega
  | cons s FL =>
    obtain ⟨A, B, HL⟩ := HB p hp
    have hs : s < R := (F4 s (by simp)).1
    have e2 : f_freeSlot = nI s := e1
    subst e2
    have hlen := gk_L0_len HL.1
    have c : (nI s).toNatClampNeg = s := nI_clamp (by omega)
    have cp : (nI p).toNatClampNeg = p := nI_clamp (by omega)
    have hin : vp_in (nI s) 24 := vp_in_nI (by omega) (by omega)
    have hip : vp_in (nI p) 8 := vp_in_nI (by omega) (by omega)
    have hii : vp_in (nI (I + 1)) 30001 := vp_in_nI (by omega) (by omega)
    have ci : (nI (I + 1)).toNatClampNeg = I + 1 := nI_clamp (by omega)
    have hAB : ∀ j, j ∈ A ++ B → j < 24 := fun j hj => Nat.lt_of_lt_of_le (HL.1.2.1 j hj) hR
    have sAB : s ∉ A ++ B := fun hj => (F4 s (by simp)).2.2 _ (gk_L0_mem HL.1 hj).1 rfl
    refine br_f (gk_ne1 (by omega)) (br_t (nI_lt (b := 30000) hI (by omega)) ⟨hin, nm_r (e' := gk_hd (-1) FL) (by rw [c]; exact F1.1) (nm_r (nI_1 I) (nm_r (e' := nI (RL.length + 1)) (by rw [HS.1, nI_1]) ?_))⟩)
    refine gk_xneed ?_
    refine ⟨hin, nm_r (e' := upd a_recordTicket s (nI (I + 1))) (by rw [c]) ⟨hin, nm_r (e' := upd a_recordOwner s (nI p)) (by rw [c]) ⟨hin, nm_r (e' := upd a_recordKind s kind) (by rw [c]) ⟨hin, nm_r (e' := upd a_recordTag s tag) (by rw [c]) ⟨hin, nm_r (e' := upd a_recordHops s hops) (by rw [c]) ⟨hin, nm_r (e' := upd a_recordNeed s (gk_nn f_running C)) (by rw [c]) ⟨hii, nm_r (e' := upd a_slotOfTicket (I + 1) (nI (s + 1))) (by rw [ci, nI_1, gk_byte (by omega)]) ?_⟩⟩⟩⟩⟩⟩⟩
    refine ⟨hin, nm_r (e' := upd a_recordNext s (-1)) (by rw [c]) ⟨hip, nm_r (e' := gk_la (A ++ B)) (by rw [cp]; exact HL.1.2.2.2.2.1) ?_⟩⟩
    rcases gk_snoc (A ++ B) with h | ⟨l, t, h⟩
    · have hA : A = [] := (List.append_eq_nil_iff.mp h).1
      have hB : B = [] := (List.append_eq_nil_iff.mp h).2
      subst hA hB
      refine br_t rfl ⟨hip, nm_r (e' := upd a_firstRecord p (nI s)) (by rw [cp]) ?_⟩
      refine ⟨hip, nm_r (e' := upd a_lastRecord p (nI s)) (by rw [cp]) ⟨hip, br_t (by rw [cp]; exact HL.2.1) ⟨hip, nm_r (e' := upd a_firstWaiting p (nI s)) (by rw [cp]) ?_⟩⟩⟩
      refine gk_xapp60 (n := 0) (by omega) HL.1.2.2.2.2.2.1 ?_
      refine K _ _ _ _ _ _ _ _ _ _ _ _ _ _ ?_
      refine gk_XQ_app (A := []) (B := []) hC hI hp hP hR hm hk hsn HA HB HD HS F1 F2 F3 F4 HL gk_d_s (fun j hj => gk_d_n hj) pk_us (fun j hj _ => pk_un hj) (fun l t e => by simp at e) (fun j hj => pk_un hj) pk_us pk_us (fun q hq => pk_un hq) pk_us (fun q hq => pk_un hq) pk_us (fun q hq => pk_un hq) pk_us (fun q hq => pk_un hq)
    · have ht : t < 24 := hAB t (by rw [h]; simp)
      have ct : (nI t).toNatClampNeg = t := nI_clamp (by omega)
      have hla : gk_la (A ++ B) = nI t := by rw [h, gk_la_c]
      have hts : t ≠ s := fun z => sAB (by rw [h, ← z]; simp)
      have hne : A ++ B ≠ [] := by rw [h]; simp
      rw [hla]
      refine br_f (gk_ne1 (by omega)) ⟨vp_in_nI ht (by omega), nm_r (e' := upd (upd a_recordNext s (-1)) t (nI s)) (by rw [ct]) ?_⟩
      have hfr0 : a_firstRecord p = gk_hd (-1) (A ++ (B ++ [s])) := by
        rw [HL.1.2.2.2.1, ← List.append_assoc, gk_hd_app _ (A ++ B)]
        cases hc : A ++ B with
        | nil => exact absurd hc hne
        | cons x l => rfl
      have hn1 : (upd (upd a_recordNext s (-1)) t (nI s)) s = -1 := by rw [pk_un hts.symm, pk_us]
      have hn2 : ∀ j, j ≠ s → (∀ l, A ++ B ≠ l ++ [j]) → (upd (upd a_recordNext s (-1)) t (nI s)) j = a_recordNext j := by
        intro j hj hl
        have : j ≠ t := fun z => hl l (by rw [h, z])
        rw [pk_un this, pk_un hj]
      have hn3 : ∀ l' t', A ++ B = l' ++ [t'] → (upd (upd a_recordNext s (-1)) t (nI s)) t' = nI s := by
        intro l' t' e
        rw [h] at e
        have := (List.append_inj' e rfl).2
        simp at this
        rw [← this, pk_us]
      refine ⟨hip, nm_r (e' := upd a_lastRecord p (nI s)) (by rw [cp]) ⟨hip, ?_⟩⟩
      cases B with
      | nil =>
        refine br_t (by rw [cp]; exact HL.2.1) ⟨hip, nm_r (e' := upd a_firstWaiting p (nI s)) (by rw [cp]) ?_⟩
        refine gk_xapp60 (by omega) HL.1.2.2.2.2.2.1 ?_
        refine K _ _ _ _ _ _ _ _ _ _ _ _ _ _ ?_
        exact gk_XQ_app (A := A) (B := []) hC hI hp hP hR hm hk hsn HA HB HD HS F1 F2 F3 F4 HL gk_d_s (fun j hj => gk_d_n hj) hn1 hn2 hn3 (fun j hj => pk_un hj) pk_us hfr0 (fun q hq => rfl) pk_us (fun q hq => pk_un hq) pk_us (fun q hq => pk_un hq) pk_us (fun q hq => pk_un hq)
      | cons b B =>
        have hb : b < 24 := hAB b (by simp)
        refine br_f (by rw [cp, HL.2.1]; exact gk_ne1 (a := b) (by omega)) ?_
        refine gk_xapp60 (by omega) HL.1.2.2.2.2.2.1 ?_
        refine K _ _ _ _ _ _ _ _ _ _ _ _ _ _ ?_
        exact gk_XQ_app (A := A) (B := b :: B) hC hI hp hP hR hm hk hsn HA HB HD HS F1 F2 F3 F4 HL gk_d_s (fun j hj => gk_d_n hj) hn1 hn2 hn3 (fun j hj => pk_un hj) pk_us hfr0 (fun q hq => rfl) HL.2.1 (fun q hq => rfl) pk_us (fun q hq => pk_un hq) pk_us (fun q hq => pk_un hq)
/-- Y's queueing: the lowest empty slot -/
theorem gk_yqueue_l {post : Int32 → SY → Prop} {o kind tag hops : Int32} (hR : R ≤ 24)
    (K : ∀ i, i < R → a_rTicket i = 0 → post (nI (I + 1)) (nI P, nI W, nI N, nI R, f_running, nI C, nI (I + 1), f_bound, f_last, f_digest, a_modeOf, a_depthOf, a_cursor, a_notedOf, a_passedOf, a_seenOf, a_holder, a_idled, a_stateOf, a_keys, a_values, a_kept, a_birthsOf, upd a_rTicket i (nI (I + 1)), upd a_rOwner i o, upd a_rKind i kind, upd a_rTag i tag, upd a_rHops i hops, upd a_rNeed i (gk_nn f_running C))) :
    ∀ n j, R - j < n → j ≤ R → (∃ i, j ≤ i ∧ i < R ∧ a_rTicket i = 0) → wY_queue_3 post o kind tag hops (nI P) (nI W) (nI N) (nI R) f_running (nI C) (nI I) f_bound f_last f_digest a_modeOf a_depthOf a_cursor a_notedOf a_passedOf a_seenOf a_holder a_idled a_stateOf a_keys a_values a_kept a_birthsOf a_rTicket a_rOwner a_rKind a_rTag a_rHops a_rNeed n (nI j) := by
  intro n
  induction n with
  | zero => intro j h; omega
  | succ n ih =>
    intro j hn hj ⟨i, h1, h2, h3⟩
    have hjR : j < R := by omega
    have hin : vp_in (nI j) 24 := vp_in_nI (by omega) (by omega)
    have c : (nI j).toNatClampNeg = j := nI_clamp (by omega)
    refine br_f (nI_ge hjR (by omega)) ⟨hin, ?_⟩
    by_cases z : a_rTicket (nI j).toNatClampNeg = 0
    · refine br_t z (nm_r (nI_1 I) ⟨hin, nm_r (e' := upd a_rTicket j (nI (I + 1))) (by rw [c]) ⟨hin, nm_r (e' := upd a_rOwner j o) (by rw [c]) ⟨hin, nm_r (e' := upd a_rKind j kind) (by rw [c]) ⟨hin, nm_r (e' := upd a_rTag j tag) (by rw [c]) ⟨hin, nm_r (e' := upd a_rHops j hops) (by rw [c]) ?_⟩⟩⟩⟩⟩)
      refine gk_yneed ⟨hin, nm_r (e' := upd a_rNeed j (gk_nn f_running C)) (by rw [c]) ?_⟩
      rw [c] at z
      exact K j hjR z
    · refine br_f z (nm_r (nI_1 j) (ih (j + 1) (by omega) (by omega) ⟨i, ?_, h2, h3⟩))
      rw [c] at z
      have : i ≠ j := fun e => z (e ▸ h3)
      omega
theorem gk_f_n {a b c d e f : Nat → Int32} {i : Nat} (h : a i = 0) : gk_f a b c d e f i = none := if_pos h
theorem gk_f_s {a b c d e f : Nat → Int32} {i : Nat} (h : a i ≠ 0) : gk_f a b c d e f i = some (gk_d a b c d e f i) := if_neg h
theorem gk_yl_full {a b c d e f : Nat → Int32} : ∀ n, (∀ i, i < n → a i ≠ 0) → (gk_yl (gk_f a b c d e f) n).length = n := by
  intro n
  induction n with
  | zero => intro _; rfl
  | succ n ih => intro h; rw [gk_yl_s, List.length_append, ih (fun i hi => h i (by omega)), gk_f_s (h n (by omega))]; rfl
theorem gk_yqueue {post : Int32 → SY → Prop} {p : Nat} {kind tag hops : Int32} (hI : I < 30000) (hR : R ≤ 24) (room : RL.length < R) (H : (gk_QY R a_rTicket a_rOwner a_rKind a_rTag a_rHops a_rNeed RL))
    (K : ∀ tk' ow' kd' tg' hp' nd', (gk_QY R tk' ow' kd' tg' hp' nd' (RL ++ [(nI (I + 1), nI p, kind, tag, hops, gk_nn f_running C)])) → post (nI (I + 1)) (nI P, nI W, nI N, nI R, f_running, nI C, nI (I + 1), f_bound, f_last, f_digest, a_modeOf, a_depthOf, a_cursor, a_notedOf, a_passedOf, a_seenOf, a_holder, a_idled, a_stateOf, a_keys, a_values, a_kept, a_birthsOf, tk', ow', kd', tg', hp', nd')) :
    wpY_queue post (nI P, nI W, nI N, nI R, f_running, nI C, nI I, f_bound, f_last, f_digest, a_modeOf, a_depthOf, a_cursor, a_notedOf, a_passedOf, a_seenOf, a_holder, a_idled, a_stateOf, a_keys, a_values, a_kept, a_birthsOf, a_rTicket, a_rOwner, a_rKind, a_rTag, a_rHops, a_rNeed) (nI p) kind tag hops := by
  have hex : ∃ i, 0 ≤ i ∧ i < R ∧ a_rTicket i = 0 := by
    refine Classical.byContradiction fun hno => ?_
    have h1 := gk_yl_full (a := a_rTicket) (b := a_rOwner) (c := a_rKind) (d := a_rTag) (e := a_rHops) (f := a_rNeed) R (fun i hi z => hno ⟨i, Nat.zero_le _, hi, z⟩)
    have h2 := H.length_eq
    omega
  refine ⟨R + 1, gk_yqueue_l hR ?_ (R + 1) 0 (by omega) (by omega) hex⟩
  intro i hi hz
  refine K _ _ _ _ _ _ ?_
  have hne : ¬ nI (I + 1) = 0 := nI_ne0 (by omega) (by omega)
  have hp := gk_yl_ins (f := (gk_f a_rTicket a_rOwner a_rKind a_rTag a_rHops a_rNeed)) (g := gk_f (upd a_rTicket i (nI (I + 1))) (upd a_rOwner i (nI p)) (upd a_rKind i kind) (upd a_rTag i tag) (upd a_rHops i hops) (upd a_rNeed i (gk_nn f_running C)))
    (r := (nI (I + 1), nI p, kind, tag, hops, gk_nn f_running C)) hi (gk_f_n hz) (by rw [gk_f_s (by rw [pk_us]; exact hne), gk_d_s]) (by intro j hj; unfold gk_f; rw [pk_un hj, gk_d_n hj])
  refine hp.trans ?_
  refine (H.cons _).trans ?_
  exact (List.perm_append_comm (l₁ := [_]) (l₂ := RL))
end
end
section
theorem gk_tick {t : Int32} {I : Nat} (hI : I ≤ 30000) (h0 : 0 < t) (h1 : t ≤ nI I) : ∃ j, 1 ≤ j ∧ j ≤ I ∧ t = nI j ∧ t.toNatClampNeg = j ∧ vp_in t 30001 := by
  obtain ⟨j, hj, rfl⟩ := nI_of (x := t) (gk_nlt.mpr (by rw [Int32.le_iff_toInt_le]; rw [Int32.lt_iff_toInt_lt] at h0; omega))
  rw [nI_leI hj (by omega)] at h1
  refine ⟨j, ?_, h1, rfl, nI_clamp hj, vp_in_nI (by omega) (by omega)⟩
  have : nI 0 < nI j := h0
  rw [nI_ltI (by omega) hj] at this
  omega
theorem gk_pw_mid {L1 L2 : List gk_Rec} {r : gk_Rec} (h : (L1 ++ r :: L2).Pairwise gk_lt) : (L1 ++ L2).Pairwise gk_lt ∧ ∀ x, x ∈ L1 ++ L2 → x.1 ≠ r.1 := by
  rw [List.pairwise_append, List.pairwise_cons] at h
  obtain ⟨h1, ⟨h2, h3⟩, h4⟩ := h
  refine ⟨?_, ?_⟩
  · rw [List.pairwise_append]
    exact ⟨h1, h3, fun a ha b hb => h4 a ha b (List.mem_cons_of_mem _ hb)⟩
  · intro x hx
    rcases List.mem_append.mp hx with hx | hx
    · exact gk_ltne (h4 x hx r (by simp)).1
    · exact (gk_ltne (h2 x hx).1).symm
section
variable {k : Nat}
variable {P W N R G C I : Nat} {RL : List gk_Rec}
variable {f_onlineMask f_rootHeld f_freeNodes f_head f_freeSlot f_queued f_running f_newestNeed f_bound f_boundLeft f_last f_digest : Int32}
variable {a_modeOf a_depthOf a_cursorOf a_notedOf a_passedOf a_seenOf a_groupOf a_groupBit a_groupStart a_leafHeld a_leafIdled a_stateOf a_keyOf a_valueOf a_linkOf a_birthsOf a_reclaimOf a_recordTicket a_recordOwner a_recordKind a_recordTag a_recordHops a_recordNeed a_recordNext a_slotOfTicket a_firstRecord a_firstWaiting a_lastRecord a_ownedCount a_readyCount a_cursor a_holder a_idled a_keys a_values a_kept a_rTicket a_rOwner a_rKind a_rTag a_rHops a_rNeed : Nat → Int32}
theorem gk_XQ_take {p s : Nat} {A B : List Nat} {L1 L2 : List gk_Rec} {fr' la' oc' rc' : Nat → Int32}
    (hp : p < P) (hP : P ≤ 8) (hR : R ≤ 24) (hsn : a_seenOf p ≤ nI C)
    (HA : (gk_QA P C I f_running f_newestNeed a_modeOf (L1 ++ (gk_d a_recordTicket a_recordOwner a_recordKind a_recordTag a_recordHops a_recordNeed) s :: L2))) (HB : (gk_QB P R a_recordTicket a_recordOwner a_recordKind a_recordTag a_recordHops a_recordNeed a_recordNext a_slotOfTicket a_seenOf a_firstRecord a_firstWaiting a_lastRecord a_ownedCount a_readyCount (L1 ++ (gk_d a_recordTicket a_recordOwner a_recordKind a_recordTag a_recordHops a_recordNeed) s :: L2))) (HC : (gk_QC R I a_recordTicket a_recordOwner a_recordKind a_recordTag a_recordHops a_recordNeed a_recordNext f_freeSlot (L1 ++ (gk_d a_recordTicket a_recordOwner a_recordKind a_recordTag a_recordHops a_recordNeed) s :: L2))) (HD : (gk_QD I a_slotOfTicket (L1 ++ (gk_d a_recordTicket a_recordOwner a_recordKind a_recordTag a_recordHops a_recordNeed) s :: L2))) (HS : (gk_QS I f_queued f_bound f_boundLeft (L1 ++ (gk_d a_recordTicket a_recordOwner a_recordKind a_recordTag a_recordHops a_recordNeed) s :: L2)))
    (HL : gk_QL R (L1 ++ (gk_d a_recordTicket a_recordOwner a_recordKind a_recordTag a_recordHops a_recordNeed) s :: L2) (gk_d a_recordTicket a_recordOwner a_recordKind a_recordTag a_recordHops a_recordNeed) a_recordNext a_slotOfTicket (a_seenOf p) (a_firstRecord p) (a_firstWaiting p) (a_lastRecord p) (a_ownedCount p) (a_readyCount p) p (s :: A) B)
    (h2 : L2.filter (gk_ow p) = (A ++ B).map (gk_d a_recordTicket a_recordOwner a_recordKind a_recordTag a_recordHops a_recordNeed)) (h1 : ∀ x, x ∈ L1 → ¬ gk_ow p x = true)
    (hfr : fr' p = gk_hd (-1) (A ++ B)) (hfr' : ∀ q, q ≠ p → fr' q = a_firstRecord q)
    (hla : la' p = gk_la (A ++ B)) (hla' : ∀ q, q ≠ p → la' q = a_lastRecord q)
    (hoc : oc' p = nI (A ++ B).length) (hoc' : ∀ q, q ≠ p → oc' q = a_ownedCount q)
    (hrc : rc' p = nI A.length) (hrc' : ∀ q, q ≠ p → rc' q = a_readyCount q) :
    (gk_XQ P C I f_running f_newestNeed a_modeOf (L1 ++ L2) R a_recordTicket a_recordOwner a_recordKind a_recordTag a_recordHops a_recordNeed (upd a_recordNext s f_freeSlot) (upd a_slotOfTicket ((gk_d a_recordTicket a_recordOwner a_recordKind a_recordTag a_recordHops a_recordNeed) s).1.toNatClampNeg 0) a_seenOf fr' a_firstWaiting la' oc' rc' (nI s) (nI (L1 ++ L2).length) f_bound (nI ((L1 ++ L2).countP (fun r => decide (r.1 ≤ f_bound))))) := by
  obtain ⟨a1, a2, a3, a4, a5, a6⟩ := HA
  obtain ⟨pw, tne⟩ := gk_pw_mid a1
  have mem : ∀ x, x ∈ L1 ++ L2 → x ∈ L1 ++ (gk_d a_recordTicket a_recordOwner a_recordKind a_recordTag a_recordHops a_recordNeed) s :: L2 := by
    intro x hx
    rcases List.mem_append.mp hx with hx | hx
    · simp [hx]
    · simp [hx]
  have mem' : ∀ x, x ∈ L1 ++ (gk_d a_recordTicket a_recordOwner a_recordKind a_recordTag a_recordHops a_recordNeed) s :: L2 → x = (gk_d a_recordTicket a_recordOwner a_recordKind a_recordTag a_recordHops a_recordNeed) s ∨ x ∈ L1 ++ L2 := by
    intro x hx
    rcases List.mem_append.mp hx with hx | hx
    · exact Or.inr (by simp [hx])
    · rcases List.mem_cons.mp hx with hx | hx
      · exact Or.inl hx
      · exact Or.inr (by simp [hx])
  have hdn : ∀ x, x ∈ L1 ++ L2 → x.1.toNatClampNeg ≠ ((gk_d a_recordTicket a_recordOwner a_recordKind a_recordTag a_recordHops a_recordNeed) s).1.toNatClampNeg := by
    intro x hx e
    obtain ⟨j, _, _, e1, e2, _⟩ := gk_tick a6 (a2 x (mem x hx)).1 (a2 x (mem x hx)).2.1
    obtain ⟨j', _, _, e1', e2', _⟩ := gk_tick a6 (a2 _ (List.mem_append_right L1 (List.mem_cons_self (a := (gk_d a_recordTicket a_recordOwner a_recordKind a_recordTag a_recordHops a_recordNeed) s) (l := L2)))).1 (a2 _ (List.mem_append_right L1 (List.mem_cons_self (a := (gk_d a_recordTicket a_recordOwner a_recordKind a_recordTag a_recordHops a_recordNeed) s) (l := L2)))).2.1
    apply tne x hx
    rw [e1, e1', ← e2, ← e2', e]
  have nd := gk_L0_nodup a1 HL.1
  have sO := (gk_L0_mem HL.1 (s := s) (by simp)).2
  have sAB : s ∉ A ++ B := (List.nodup_cons.mp nd).1
  refine ⟨⟨pw, fun r hr => a2 r (mem r hr), ?_, a4, a5, a6⟩, ?_, ?_, ?_, ?_⟩
  · intro hlt
    obtain ⟨r, hr, e⟩ := a3 hlt
    rcases mem' r hr with rfl | hr
    · exfalso
      have h3 := HL.2.2.2.1 s (by simp)
      rw [e] at h3
      exact gk_ltne (gk_lelt (gk_let h3 hsn) hlt) rfl
    · exact ⟨r, hr, e⟩
  · intro q hq
    by_cases e : q = p
    · subst e
      rw [hfr, hla, hoc, hrc]
      have nxs : ∀ j, j ∈ A ++ B → upd a_recordNext s f_freeSlot j = a_recordNext j := fun j hj => pk_un (fun z => sAB (z ▸ hj))
      refine ⟨A, B, ⟨?_, fun j hj => HL.1.2.1 j (by simp only [List.cons_append, List.mem_cons]; exact Or.inr hj), gk_sg_c nxs HL.1.2.2.1.2, rfl, rfl, rfl, ?_⟩, HL.2.1, rfl, fun j hj => HL.2.2.2.1 j (by simp [hj]), HL.2.2.2.2⟩
      · rw [List.filter_append, h2, List.filter_eq_nil_iff.mpr h1, List.nil_append]
      · intro j hj
        have hm : (gk_d a_recordTicket a_recordOwner a_recordKind a_recordTag a_recordHops a_recordNeed) j ∈ L1 ++ L2 := by
          have : (gk_d a_recordTicket a_recordOwner a_recordKind a_recordTag a_recordHops a_recordNeed) j ∈ L2.filter (gk_ow q) := by rw [h2]; exact List.mem_map_of_mem hj
          exact List.mem_append_right _ (List.mem_filter.mp this).1
        rw [pk_un (hdn _ hm)]
        exact HL.1.2.2.2.2.2.2 j (by simp only [List.cons_append, List.mem_cons]; exact Or.inr hj)
    · obtain ⟨A', B', H'⟩ := HB q hq
      rw [hfr' q e, hla' q e, hoc' q e, hrc' q e]
      have hs' : s ∉ A' ++ B' := by
        intro hs
        exact e (gk_inj ((gk_L0_mem H'.1 hs).2.symm.trans sO) (by omega) (by omega))
      have hne : ¬ gk_ow q ((gk_d a_recordTicket a_recordOwner a_recordKind a_recordTag a_recordHops a_recordNeed) s) = true := by
        rw [gk_ow_i, sO]
        intro z
        exact e (gk_inj z.symm (by omega) (by omega))
      refine ⟨A', B', gk_QL_frame H' (fun _ _ => rfl) (fun j hj => pk_un (fun z => hs' (z ▸ hj))) ?_ ?_⟩
      · intro j hj
        have hm := gk_L0_mem H'.1 hj
        rcases mem' _ hm.1 with h | h
        · exfalso; rw [h] at hm; exact hne (gk_ow_i.mpr hm.2)
        · exact pk_un (hdn _ h)
      · rw [List.filter_append, List.filter_append, List.filter_cons_of_neg hne]
  · obtain ⟨FL, f1, f2, f3, f4, f5⟩ := HC
    have sF : s ∉ FL := fun h => (f5 s h).2.2 _ (List.mem_append_right L1 (List.mem_cons_self (a := (gk_d a_recordTicket a_recordOwner a_recordKind a_recordTag a_recordHops a_recordNeed) s) (l := L2))) rfl
    refine ⟨s :: FL, rfl, ⟨?_, gk_sg_u sF f2⟩, List.nodup_cons.mpr ⟨sF, f3⟩, ?_, ?_⟩
    · rw [pk_us]; exact f1
    · simp at f4 ⊢; omega
    · intro j hj
      rcases List.mem_cons.mp hj with rfl | hj
      · exact ⟨HL.1.2.1 j (by simp), (a2 _ (List.mem_append_right L1 (List.mem_cons_self (a := (gk_d a_recordTicket a_recordOwner a_recordKind a_recordTag a_recordHops a_recordNeed) j) (l := L2)))).2.1, tne⟩
      · exact ⟨(f5 j hj).1, (f5 j hj).2.1, fun r hr => (f5 j hj).2.2 r (mem r hr)⟩
  · intro t h3 h4 h5
    by_cases e : t = ((gk_d a_recordTicket a_recordOwner a_recordKind a_recordTag a_recordHops a_recordNeed) s).1.toNatClampNeg
    · rw [← e, pk_us]
    · rw [pk_un e]
      refine HD t h3 h4 ?_
      intro r hr
      rcases mem' r hr with rfl | hr
      · intro z
        apply e
        rw [z, nI_clamp (by omega)]
      · exact h5 r hr
  · exact ⟨rfl, HS.2.1, rfl⟩
theorem gk_xtake82 {post : SX → Prop} {s : Nat} {f_qd f_bl : Int32} (hs : s < 24) (hv : vp_in (a_recordTicket s) 30001)
    (h : post (nI P, nI N, nI R, nI G, f_onlineMask, f_rootHeld, f_freeNodes, f_head, nI s, f_qd, f_running, nI C, nI I, f_newestNeed, f_bound, f_bl, f_last, f_digest, a_modeOf, a_depthOf, a_cursorOf, a_notedOf, a_passedOf, a_seenOf, a_groupOf, a_groupBit, a_groupStart, a_leafHeld, a_leafIdled, a_stateOf, a_keyOf, a_valueOf, a_linkOf, a_birthsOf, a_reclaimOf, a_recordTicket, a_recordOwner, a_recordKind, a_recordTag, a_recordHops, a_recordNeed, upd a_recordNext s f_freeSlot, upd a_slotOfTicket ((gk_d a_recordTicket a_recordOwner a_recordKind a_recordTag a_recordHops a_recordNeed) s).1.toNatClampNeg 0, a_firstRecord, a_firstWaiting, a_lastRecord, a_ownedCount, a_readyCount)) :
    wX_takeFirst_82 post (nI s) (nI P) (nI N) (nI R) (nI G) f_onlineMask f_rootHeld f_freeNodes f_head f_freeSlot f_qd f_running (nI C) (nI I) f_newestNeed f_bound f_bl f_last f_digest a_modeOf a_depthOf a_cursorOf a_notedOf a_passedOf a_seenOf a_groupOf a_groupBit a_groupStart a_leafHeld a_leafIdled a_stateOf a_keyOf a_valueOf a_linkOf a_birthsOf a_reclaimOf a_recordTicket a_recordOwner a_recordKind a_recordTag a_recordHops a_recordNeed a_recordNext a_slotOfTicket a_firstRecord a_firstWaiting a_lastRecord a_ownedCount a_readyCount := by
  have hin : vp_in (nI s) 24 := vp_in_nI hs (by omega)
  have c : (nI s).toNatClampNeg = s := nI_clamp (by omega)
  exact ⟨hin, by rw [c]; exact hv, nm_r (e' := upd a_slotOfTicket (a_recordTicket s).toNatClampNeg 0) (by rw [c, gk_byte00]) ⟨hin, nm_r (e' := upd a_recordNext s f_freeSlot) (by rw [c]) h⟩⟩
theorem gk_xtake29 {post : SX → Prop} {p s a b : Nat} {L1 L2 : List gk_Rec} (hp : p < 8) (hs : s < 24) (hv : vp_in (a_recordTicket s) 30001)
    (ho : a_ownedCount p = nI (a + 1)) (hr : a_readyCount p = nI (b + 1)) (HS : (gk_QS I f_queued f_bound f_boundLeft (L1 ++ (gk_d a_recordTicket a_recordOwner a_recordKind a_recordTag a_recordHops a_recordNeed) s :: L2)))
    (h : post (nI P, nI N, nI R, nI G, f_onlineMask, f_rootHeld, f_freeNodes, f_head, nI s, nI (L1 ++ L2).length, f_running, nI C, nI I, f_newestNeed, f_bound, nI ((L1 ++ L2).countP (fun r => decide (r.1 ≤ f_bound))), f_last, f_digest, a_modeOf, a_depthOf, a_cursorOf, a_notedOf, a_passedOf, a_seenOf, a_groupOf, a_groupBit, a_groupStart, a_leafHeld, a_leafIdled, a_stateOf, a_keyOf, a_valueOf, a_linkOf, a_birthsOf, a_reclaimOf, a_recordTicket, a_recordOwner, a_recordKind, a_recordTag, a_recordHops, a_recordNeed, upd a_recordNext s f_freeSlot, upd a_slotOfTicket ((gk_d a_recordTicket a_recordOwner a_recordKind a_recordTag a_recordHops a_recordNeed) s).1.toNatClampNeg 0, a_firstRecord, a_firstWaiting, a_lastRecord, upd a_ownedCount p (nI a), upd a_readyCount p (nI b))) :
    wX_takeFirst_29 post (nI p) (nI s) (nI P) (nI N) (nI R) (nI G) f_onlineMask f_rootHeld f_freeNodes f_head f_freeSlot f_queued f_running (nI C) (nI I) f_newestNeed f_bound f_boundLeft f_last f_digest a_modeOf a_depthOf a_cursorOf a_notedOf a_passedOf a_seenOf a_groupOf a_groupBit a_groupStart a_leafHeld a_leafIdled a_stateOf a_keyOf a_valueOf a_linkOf a_birthsOf a_reclaimOf a_recordTicket a_recordOwner a_recordKind a_recordTag a_recordHops a_recordNeed a_recordNext a_slotOfTicket a_firstRecord a_firstWaiting a_lastRecord a_ownedCount a_readyCount := by
  have hin : vp_in (nI s) 24 := vp_in_nI hs (by omega)
  have hip : vp_in (nI p) 8 := vp_in_nI hp (by omega)
  have c : (nI s).toNatClampNeg = s := nI_clamp (by omega)
  have cp : (nI p).toNatClampNeg = p := nI_clamp (by omega)
  obtain ⟨s1, s2, s3⟩ := HS
  refine ⟨hip, hip, nm_r (e' := upd a_ownedCount p (nI a)) (by rw [cp, ho, nI_pred]) ⟨hip, hip, nm_r (e' := upd a_readyCount p (nI b)) (by rw [cp, hr, nI_pred]) (nm_r (e' := nI (L1 ++ L2).length) ?_ ⟨hin, ?_⟩)⟩⟩
  · rw [s1, show (L1 ++ (gk_d a_recordTicket a_recordOwner a_recordKind a_recordTag a_recordHops a_recordNeed) s :: L2).length = (L1 ++ L2).length + 1 from by simp; omega, nI_pred]
  · by_cases z : f_bound < a_recordTicket (nI s).toNatClampNeg
    · refine br_t z ?_
      rw [c] at z
      have e : f_boundLeft = nI ((L1 ++ L2).countP (fun r => decide (r.1 ≤ f_bound))) := by
        rw [s3, List.countP_append, List.countP_cons, List.countP_append]
        have : decide (((gk_d a_recordTicket a_recordOwner a_recordKind a_recordTag a_recordHops a_recordNeed) s).1 ≤ f_bound) = false := decide_eq_false (gk_nle.mpr z)
        rw [this]; simp
      rw [e]
      exact gk_xtake82 hs hv h
    · refine br_f z ?_
      rw [c] at z
      have e : f_boundLeft - 1 = nI ((L1 ++ L2).countP (fun r => decide (r.1 ≤ f_bound))) := by
        rw [s3, List.countP_append, List.countP_cons, List.countP_append]
        have : decide (((gk_d a_recordTicket a_recordOwner a_recordKind a_recordTag a_recordHops a_recordNeed) s).1 ≤ f_bound) = true := decide_eq_true (gk_nlt.mp z)
        rw [this, if_pos rfl, ← Nat.add_assoc, nI_pred]
      refine nm_r e ?_
      exact gk_xtake82 hs hv h
/-- takeFirst of the first ready slot s -/
theorem gk_xtake {post : SX → Prop} {p s : Nat} {A B : List Nat} (hp : p < P) (hP : P ≤ 8) (hR : R ≤ 24) (hsn : a_seenOf p ≤ nI C) (H : (gk_XQ P C I f_running f_newestNeed a_modeOf RL R a_recordTicket a_recordOwner a_recordKind a_recordTag a_recordHops a_recordNeed a_recordNext a_slotOfTicket a_seenOf a_firstRecord a_firstWaiting a_lastRecord a_ownedCount a_readyCount f_freeSlot f_queued f_bound f_boundLeft))
    (HL : gk_QL R RL (gk_d a_recordTicket a_recordOwner a_recordKind a_recordTag a_recordHops a_recordNeed) a_recordNext a_slotOfTicket (a_seenOf p) (a_firstRecord p) (a_firstWaiting p) (a_lastRecord p) (a_ownedCount p) (a_readyCount p) p (s :: A) B)
    (K : ∀ L1 L2 qd bl fs nx' sot' fr' la' oc' rc', RL = L1 ++ (gk_d a_recordTicket a_recordOwner a_recordKind a_recordTag a_recordHops a_recordNeed) s :: L2 → rc' p = nI A.length → (gk_XQ P C I f_running f_newestNeed a_modeOf (L1 ++ L2) R a_recordTicket a_recordOwner a_recordKind a_recordTag a_recordHops a_recordNeed nx' sot' a_seenOf fr' a_firstWaiting la' oc' rc' fs qd f_bound bl) →
      post (nI P, nI N, nI R, nI G, f_onlineMask, f_rootHeld, f_freeNodes, f_head, fs, qd, f_running, nI C, nI I, f_newestNeed, f_bound, bl, f_last, f_digest, a_modeOf, a_depthOf, a_cursorOf, a_notedOf, a_passedOf, a_seenOf, a_groupOf, a_groupBit, a_groupStart, a_leafHeld, a_leafIdled, a_stateOf, a_keyOf, a_valueOf, a_linkOf, a_birthsOf, a_reclaimOf, a_recordTicket, a_recordOwner, a_recordKind, a_recordTag, a_recordHops, a_recordNeed, nx', sot', fr', a_firstWaiting, la', oc', rc')) :
    wpX_takeFirst post (nI P, nI N, nI R, nI G, f_onlineMask, f_rootHeld, f_freeNodes, f_head, f_freeSlot, f_queued, f_running, nI C, nI I, f_newestNeed, f_bound, f_boundLeft, f_last, f_digest, a_modeOf, a_depthOf, a_cursorOf, a_notedOf, a_passedOf, a_seenOf, a_groupOf, a_groupBit, a_groupStart, a_leafHeld, a_leafIdled, a_stateOf, a_keyOf, a_valueOf, a_linkOf, a_birthsOf, a_reclaimOf, a_recordTicket, a_recordOwner, a_recordKind, a_recordTag, a_recordHops, a_recordNeed, a_recordNext, a_slotOfTicket, a_firstRecord, a_firstWaiting, a_lastRecord, a_ownedCount, a_readyCount) (nI p) (nI s) := by
  obtain ⟨HA, HB, HC, HD, HS⟩ := H
  have hf := HL.1.1
  rw [List.cons_append, List.map_cons] at hf
  obtain ⟨L1, L2, e, h1, h3, h2⟩ := List.filter_eq_cons_iff.mp hf.symm
  subst e
  have hs : s < R := HL.1.2.1 s (by simp)
  have hin : vp_in (nI s) 24 := vp_in_nI (by omega) (by omega)
  have hip : vp_in (nI p) 8 := vp_in_nI (by omega) (by omega)
  have c : (nI s).toNatClampNeg = s := nI_clamp (by omega)
  have cp : (nI p).toNatClampNeg = p := nI_clamp (by omega)
  have hAB : ∀ j, j ∈ A ++ B → j < 24 := fun j hj => Nat.lt_of_lt_of_le (HL.1.2.1 j (by simp only [List.cons_append, List.mem_cons]; exact Or.inr hj)) hR
  have hm := HA.2.1 _ (List.mem_append_right L1 (List.mem_cons_self (a := (gk_d a_recordTicket a_recordOwner a_recordKind a_recordTag a_recordHops a_recordNeed) s) (l := L2)))
  obtain ⟨j, _, _, _, _, hv⟩ := gk_tick HA.2.2.2.2.2 hm.1 hm.2.1
  have hv' : vp_in (a_recordTicket s) 30001 := hv
  have ho : a_ownedCount p = nI ((A ++ B).length + 1) := HL.1.2.2.2.2.2.1
  have hr : a_readyCount p = nI (A.length + 1) := HL.2.2.1
  refine ⟨hin, hip, nm_r (e' := upd a_firstRecord p (gk_hd (-1) (A ++ B))) (by rw [c, cp]; exact congrArg _ HL.1.2.2.1.1) ⟨hip, ?_⟩⟩
  by_cases z : A ++ B = []
  · refine br_t (by rw [cp, pk_us, z]; rfl) ⟨hip, nm_r (e' := upd a_lastRecord p (-1)) (by rw [cp]) ?_⟩
    refine gk_xtake29 (L1 := L1) (L2 := L2) (by omega) (by omega) hv' ho hr HS ?_
    refine K L1 L2 _ _ _ _ _ _ _ _ _ rfl pk_us ?_
    exact gk_XQ_take hp hP hR hsn HA HB HC HD HS HL h2 h1 pk_us (fun q hq => pk_un hq) (by rw [pk_us, z]; rfl) (fun q hq => pk_un hq) pk_us (fun q hq => pk_un hq) pk_us (fun q hq => pk_un hq)
  · refine br_f (by rw [cp, pk_us, gk_hd_m1 (n := 24) (by omega) hAB]; exact z) ?_
    refine gk_xtake29 (L1 := L1) (L2 := L2) (by omega) (by omega) hv' ho hr HS ?_
    refine K L1 L2 _ _ _ _ _ _ _ _ _ rfl pk_us ?_
    refine gk_XQ_take hp hP hR hsn HA HB HC HD HS HL h2 h1 pk_us (fun q hq => pk_un hq) ?_ (fun q hq => rfl) pk_us (fun q hq => pk_un hq) pk_us (fun q hq => pk_un hq)
    rw [HL.1.2.2.2.2.1]
    cases hc : A ++ B with
    | nil => exact absurd hc z
    | cons x l => rw [List.cons_append, hc, gk_la_cons]
end
end
section
section
variable {k : Nat}
variable {P W N R G C I : Nat} {RL : List gk_Rec}
variable {f_onlineMask f_rootHeld f_freeNodes f_head f_freeSlot f_queued f_running f_newestNeed f_bound f_boundLeft f_last f_digest : Int32}
variable {a_modeOf a_depthOf a_cursorOf a_notedOf a_passedOf a_seenOf a_groupOf a_groupBit a_groupStart a_leafHeld a_leafIdled a_stateOf a_keyOf a_valueOf a_linkOf a_birthsOf a_reclaimOf a_recordTicket a_recordOwner a_recordKind a_recordTag a_recordHops a_recordNeed a_recordNext a_slotOfTicket a_firstRecord a_firstWaiting a_lastRecord a_ownedCount a_readyCount a_cursor a_holder a_idled a_keys a_values a_kept a_rTicket a_rOwner a_rKind a_rTag a_rHops a_rNeed : Nat → Int32}
theorem gk_xlearn_l {post : SX → Prop} {p : Nat} (hp : p < 8) (hR : R ≤ 24) :
    ∀ (B2 : List Nat) (n j m : Nat) (rc : Nat → Int32), B2.length < n → (∀ s, s ∈ B2 → s < R) → gk_sg a_recordNext (-1) B2 → j + B2.length ≤ R → rc p = nI m →
    (∀ B1 B3 rc', B2 = B1 ++ B3 → (∀ s, s ∈ B1 → a_recordNeed s ≤ nI C) → (∀ s l, B3 = s :: l → nI C < a_recordNeed s) → rc' p = nI (m + B1.length) → (∀ q, q ≠ p → rc' q = rc q) →
      post (nI P, nI N, nI R, nI G, f_onlineMask, f_rootHeld, f_freeNodes, f_head, f_freeSlot, f_queued, f_running, nI C, nI I, f_newestNeed, f_bound, f_boundLeft, f_last, f_digest, a_modeOf, a_depthOf, a_cursorOf, a_notedOf, a_passedOf, a_seenOf, a_groupOf, a_groupBit, a_groupStart, a_leafHeld, a_leafIdled, a_stateOf, a_keyOf, a_valueOf, a_linkOf, a_birthsOf, a_reclaimOf, a_recordTicket, a_recordOwner, a_recordKind, a_recordTag, a_recordHops, a_recordNeed, a_recordNext, a_slotOfTicket, a_firstRecord, upd a_firstWaiting p (gk_hd (-1) B3), a_lastRecord, a_ownedCount, rc')) →
    wX_learnCompleted_19 post (nI p) (nI P) (nI N) (nI R) (nI G) f_onlineMask f_rootHeld f_freeNodes f_head f_freeSlot f_queued f_running (nI C) (nI I) f_newestNeed f_bound f_boundLeft f_last f_digest n (gk_hd (-1) B2) (nI j) a_modeOf a_depthOf a_cursorOf a_notedOf a_passedOf a_seenOf a_groupOf a_groupBit a_groupStart a_leafHeld a_leafIdled a_stateOf a_keyOf a_valueOf a_linkOf a_birthsOf a_reclaimOf a_recordTicket a_recordOwner a_recordKind a_recordTag a_recordHops a_recordNeed a_recordNext a_slotOfTicket a_firstRecord a_firstWaiting a_lastRecord a_ownedCount rc := by
  have hip : vp_in (nI p) 8 := vp_in_nI hp (by omega)
  have cp : (nI p).toNatClampNeg = p := nI_clamp (by omega)
  intro B2
  induction B2 with
  | nil =>
    intro n j m rc hn hs sg hj hr K
    cases n with
    | zero => simp at hn
    | succ n =>
      have fin := K [] [] rc rfl (fun s hs => by simp at hs) (fun s l e => by simp at e) (by simpa using hr) (fun q _ => rfl)
      have : vp_in (nI p) 8 ∧ ∀ y, y = upd a_firstWaiting (nI p).toNatClampNeg (-1) → post (nI P, nI N, nI R, nI G, f_onlineMask, f_rootHeld, f_freeNodes, f_head, f_freeSlot, f_queued, f_running, nI C, nI I, f_newestNeed, f_bound, f_boundLeft, f_last, f_digest, a_modeOf, a_depthOf, a_cursorOf, a_notedOf, a_passedOf, a_seenOf, a_groupOf, a_groupBit, a_groupStart, a_leafHeld, a_leafIdled, a_stateOf, a_keyOf, a_valueOf, a_linkOf, a_birthsOf, a_reclaimOf, a_recordTicket, a_recordOwner, a_recordKind, a_recordTag, a_recordHops, a_recordNeed, a_recordNext, a_slotOfTicket, a_firstRecord, y, a_lastRecord, a_ownedCount, rc) := ⟨hip, nm_r (e' := upd a_firstWaiting p (-1)) (by rw [cp]) fin⟩
      by_cases e : R ≤ j
      · exact br_t (nI_le e (by simp at hj; omega)) this
      · exact br_f (nI_ge (by omega) (by omega)) (br_t rfl this)
  | cons s l ih =>
    intro n j m rc hn hs sg hj hr K
    cases n with
    | zero => simp at hn
    | succ n =>
      simp only [List.length_cons] at hn hj
      have hsR : s < R := hs s (by simp)
      have hin : vp_in (nI s) 24 := vp_in_nI (by omega) (by omega)
      have c : (nI s).toNatClampNeg = s := nI_clamp (by omega)
      refine br_f (nI_ge (by omega) (by omega)) (br_f (gk_ne1 (a := s) (by omega)) ⟨hin, ?_⟩)
      by_cases e : a_recordNeed (nI s).toNatClampNeg ≤ nI C
      · refine br_t e ⟨hip, hip, nm_r (e' := upd rc p (nI (m + 1))) (by rw [cp, hr, nI_1]) ⟨hin, nm_r (e' := gk_hd (-1) l) (by show a_recordNext (nI s).toNatClampNeg = _; rw [c]; exact sg.1) (nm_r (nI_1 j) ?_)⟩⟩
        rw [c] at e
        refine ih n (j + 1) (m + 1) _ (by omega) (fun t ht => hs t (by simp [ht])) sg.2 (by omega) pk_us ?_
        intro B1 B3 rc' e1 e2 e3 e4 e5
        refine K (s :: B1) B3 rc' (by rw [e1]; rfl) ?_ e3 (by rw [e4]; congr 1; simp; omega) (fun q hq => by rw [e5 q hq, pk_un hq])
        intro t ht
        rcases List.mem_cons.mp ht with rfl | ht
        · exact e
        · exact e2 t ht
      · refine br_f e ⟨hip, nm_r (e' := upd a_firstWaiting p (nI s)) (by rw [cp]; rfl) ?_⟩
        rw [c] at e
        refine K [] (s :: l) rc rfl (fun s hs => by simp at hs) ?_ (by simpa using hr) (fun q _ => rfl)
        intro t l' e'
        simp at e'
        rw [← e'.1]
        exact gk_nle.mp e
/-- p learns the completed periods -/
theorem gk_xlearn {post : SX → Prop} {p : Nat} {A B : List Nat} (hp : p < P) (hP : P ≤ 8) (hR : R ≤ 24) (hpw : RL.Pairwise gk_lt) (hlen : RL.length ≤ R)
    (HB : ∀ q, q < P → q ≠ p → ∃ A B, gk_QL R RL (gk_d a_recordTicket a_recordOwner a_recordKind a_recordTag a_recordHops a_recordNeed) a_recordNext a_slotOfTicket (a_seenOf q) (a_firstRecord q) (a_firstWaiting q) (a_lastRecord q) (a_ownedCount q) (a_readyCount q) q A B)
    (HL : gk_L0 R RL (gk_d a_recordTicket a_recordOwner a_recordKind a_recordTag a_recordHops a_recordNeed) a_recordNext a_slotOfTicket (a_firstRecord p) (a_lastRecord p) (a_ownedCount p) p (A ++ B)) (hfw : a_firstWaiting p = gk_hd (-1) B) (hrc : a_readyCount p = nI A.length)
    (hA : ∀ s, s ∈ A → a_recordNeed s ≤ nI C)
    (K : ∀ fw' rc', (gk_QB P R a_recordTicket a_recordOwner a_recordKind a_recordTag a_recordHops a_recordNeed a_recordNext a_slotOfTicket (upd a_seenOf p (nI C)) a_firstRecord fw' a_lastRecord a_ownedCount rc' RL) → post (nI P, nI N, nI R, nI G, f_onlineMask, f_rootHeld, f_freeNodes, f_head, f_freeSlot, f_queued, f_running, nI C, nI I, f_newestNeed, f_bound, f_boundLeft, f_last, f_digest, a_modeOf, a_depthOf, a_cursorOf, a_notedOf, a_passedOf, upd a_seenOf p (nI C), a_groupOf, a_groupBit, a_groupStart, a_leafHeld, a_leafIdled, a_stateOf, a_keyOf, a_valueOf, a_linkOf, a_birthsOf, a_reclaimOf, a_recordTicket, a_recordOwner, a_recordKind, a_recordTag, a_recordHops, a_recordNeed, a_recordNext, a_slotOfTicket, a_firstRecord, fw', a_lastRecord, a_ownedCount, rc')) :
    wpX_learnCompleted post (nI P, nI N, nI R, nI G, f_onlineMask, f_rootHeld, f_freeNodes, f_head, f_freeSlot, f_queued, f_running, nI C, nI I, f_newestNeed, f_bound, f_boundLeft, f_last, f_digest, a_modeOf, a_depthOf, a_cursorOf, a_notedOf, a_passedOf, a_seenOf, a_groupOf, a_groupBit, a_groupStart, a_leafHeld, a_leafIdled, a_stateOf, a_keyOf, a_valueOf, a_linkOf, a_birthsOf, a_reclaimOf, a_recordTicket, a_recordOwner, a_recordKind, a_recordTag, a_recordHops, a_recordNeed, a_recordNext, a_slotOfTicket, a_firstRecord, a_firstWaiting, a_lastRecord, a_ownedCount, a_readyCount) (nI p) := by
  have hip : vp_in (nI p) 8 := vp_in_nI (by omega) (by omega)
  have cp : (nI p).toNatClampNeg = p := nI_clamp (by omega)
  have hl := gk_L0_len HL
  rw [List.length_append] at hl
  refine ⟨hip, nm_r (e' := upd a_seenOf p (nI C)) (by rw [cp]) ⟨hip, nm_r (e' := gk_hd (-1) B) (by rw [cp]; exact hfw) ⟨B.length + 1, ?_⟩⟩⟩
  refine gk_xlearn_l (by omega) hR B (B.length + 1) 0 A.length a_readyCount (by omega) (fun s hs => HL.2.1 s (by simp [hs])) (gk_sg_app.mp HL.2.2.1).2 (by omega) hrc ?_
  intro B1 B3 rc' e1 e2 e3 e4 e5
  refine K _ _ ?_
  intro q hq
  by_cases e : q = p
  · subst e
    rw [pk_us, pk_us, e4]
    refine ⟨A ++ B1, B3, ?_, rfl, by rw [List.length_append], ?_, ?_⟩
    · rw [List.append_assoc, ← e1]; exact HL
    · intro s hs
      rcases List.mem_append.mp hs with hs | hs
      · exact hA s hs
      · exact e2 s hs
    · cases B3 with
      | nil => intro s hs; simp at hs
      | cons t l =>
        have h1 := e3 t l rfl
        have hp2 : ((A ++ (B1 ++ t :: l)).map (gk_d a_recordTicket a_recordOwner a_recordKind a_recordTag a_recordHops a_recordNeed)).Pairwise gk_lt := by rw [← e1, HL.1]; exact hpw.filter _
        rw [List.pairwise_map, ← List.append_assoc, List.pairwise_append, List.pairwise_cons] at hp2
        intro s hs
        rcases List.mem_cons.mp hs with rfl | hs
        · exact h1
        · exact gk_ltle h1 (hp2.2.1.1 s hs).2
  · obtain ⟨A', B', H'⟩ := HB q hq e
    rw [pk_un e, pk_un e, e5 q e]
    exact ⟨A', B', H'⟩
end
end
section
/-- a record goes over from p to h -/
def gk_mv (p h : Nat) (r : gk_Rec) : gk_Rec := if gk_ow p r then (r.1, nI h, r.2.2) else r
theorem gk_mv_t {p h : Nat} {r : gk_Rec} (e : gk_ow p r = true) : gk_mv p h r = (r.1, nI h, r.2.2) := if_pos e
theorem gk_mv_f {p h : Nat} {r : gk_Rec} (e : ¬ gk_ow p r = true) : gk_mv p h r = r := if_neg e
theorem gk_mv_1 (p h : Nat) (r : gk_Rec) : (gk_mv p h r).1 = r.1 ∧ (gk_mv p h r).2.2 = r.2.2 := by
  by_cases e : gk_ow p r = true
  · rw [gk_mv_t e]; exact ⟨rfl, rfl⟩
  · rw [gk_mv_f e]; exact ⟨rfl, rfl⟩
theorem gk_mv_owh {p h : Nat} (r : gk_Rec) : gk_ow h (gk_mv p h r) = (gk_ow p r || gk_ow h r) := by
  by_cases e : gk_ow p r = true
  · rw [gk_mv_t e, e]; exact gk_ow_t rfl
  · rw [gk_mv_f e]; simp at e; rw [e, Bool.false_or]
theorem gk_mv_own {p h q : Nat} (hq : q ≠ p) (hqh : q ≠ h) (b : q < 2 ^ 31) (c : p < 2 ^ 31) (c' : h < 2 ^ 31) (r : gk_Rec) : gk_ow q (gk_mv p h r) = gk_ow q r := by
  by_cases e : gk_ow p r = true
  · rw [gk_mv_t e, gk_ow_f (fun z => hqh (gk_inj z.symm b c')), gk_ow_f]
    intro z
    exact hq (gk_inj (z.symm.trans (gk_ow_i.mp e)) b c)
  · rw [gk_mv_f e]
theorem gk_mv_owp {p h : Nat} (hne : p ≠ h) (c : p < 2 ^ 31) (c' : h < 2 ^ 31) (r : gk_Rec) : gk_ow p (gk_mv p h r) = false := by
  by_cases e : gk_ow p r = true
  · rw [gk_mv_t e]; exact gk_ow_f (fun z => hne (gk_inj z.symm c c'))
  · rw [gk_mv_f e]; simpa using e
theorem gk_mv_fh {p h : Nat} (RL : List gk_Rec) : (RL.map (gk_mv p h)).filter (gk_ow h) = (RL.filter (fun r => gk_ow p r || gk_ow h r)).map (gk_mv p h) := by
  rw [List.filter_map]
  congr 1
  apply List.filter_congr
  intro r _
  exact gk_mv_owh r
theorem gk_mv_fq {p h q : Nat} (hq : q ≠ p) (hqh : q ≠ h) (b : q < 2 ^ 31) (c : p < 2 ^ 31) (c' : h < 2 ^ 31) (RL : List gk_Rec) : (RL.map (gk_mv p h)).filter (gk_ow q) = RL.filter (gk_ow q) := by
  rw [List.filter_map]
  have : RL.filter (gk_ow q ∘ gk_mv p h) = RL.filter (gk_ow q) := List.filter_congr (fun r _ => gk_mv_own hq hqh b c c' r)
  rw [this]
  have h2 : ∀ r, r ∈ RL.filter (gk_ow q) → gk_mv p h r = r := by
    intro r hr
    apply gk_mv_f
    intro z
    have h3 := (List.mem_filter.mp hr).2
    exact hq (gk_inj ((gk_ow_i.mp h3).symm.trans (gk_ow_i.mp z)) b c)
  rw [List.map_congr_left h2, List.map_id']
theorem gk_mv_fp {p h : Nat} (hne : p ≠ h) (c : p < 2 ^ 31) (c' : h < 2 ^ 31) (RL : List gk_Rec) : (RL.map (gk_mv p h)).filter (gk_ow p) = [] := by
  rw [List.filter_eq_nil_iff]
  intro r hr
  obtain ⟨r', _, rfl⟩ := List.mem_map.mp hr
  rw [gk_mv_owp hne c c']; simp
theorem gk_mv_pw {p h : Nat} {RL : List gk_Rec} (H : RL.Pairwise gk_lt) : (RL.map (gk_mv p h)).Pairwise gk_lt := by
  rw [List.pairwise_map]
  refine H.imp ?_
  intro a b hab
  unfold gk_lt at *
  rw [(gk_mv_1 p h a).1, (gk_mv_1 p h b).1, (gk_mv_1 p h a).2, (gk_mv_1 p h b).2]
  exact hab
section
variable {k : Nat}
variable {P W N R G C I : Nat} {RL : List gk_Rec}
variable {f_onlineMask f_rootHeld f_freeNodes f_head f_freeSlot f_queued f_running f_newestNeed f_bound f_boundLeft f_last f_digest : Int32}
variable {a_modeOf a_depthOf a_cursorOf a_notedOf a_passedOf a_seenOf a_groupOf a_groupBit a_groupStart a_leafHeld a_leafIdled a_stateOf a_keyOf a_valueOf a_linkOf a_birthsOf a_reclaimOf a_recordTicket a_recordOwner a_recordKind a_recordTag a_recordHops a_recordNeed a_recordNext a_slotOfTicket a_firstRecord a_firstWaiting a_lastRecord a_ownedCount a_readyCount a_cursor a_holder a_idled a_keys a_values a_kept a_rTicket a_rOwner a_rKind a_rTag a_rHops a_rNeed : Nat → Int32}
/-- what holds while the two lists are merged -/
def gk_MI (R p h : Nat) (tk ow kd tg hp nd nx : Nat → Int32) (Lp Lh : List Nat) (Md Mr : List gk_Rec) (D La Lb : List Nat) (ow' nx' : Nat → Int32) : Prop :=
  La.map (gk_d tk ow kd tg hp nd) = Mr.filter (gk_ow p) ∧ Lb.map (gk_d tk ow kd tg hp nd) = Mr.filter (gk_ow h) ∧ D.map (gk_d tk ow' kd tg hp nd) = Md.map (gk_mv p h)
  ∧ (D ++ (La ++ Lb)).Nodup ∧ (∀ s, s ∈ D ++ (La ++ Lb) → s ∈ Lp ++ Lh) ∧ gk_sg nx' (-1) La ∧ gk_sg nx' (-1) Lb
  ∧ (∃ e, gk_sg nx' e D ∧ (D ≠ [] → e = gk_hd (-1) La ∨ e = gk_hd (-1) Lb)) ∧ (∀ s, s ∉ D → ow' s = ow s ∧ nx' s = nx s)
  ∧ (∀ r, r ∈ Mr → gk_ow p r = true ∨ gk_ow h r = true) ∧ D.length + (La.length + Lb.length) = Lp.length + Lh.length
/-- the link of the last one taken, and the new end -/
theorem gk_m_link {nx' : Nat → Int32} {D : List Nat} {e : Int32} {s : Nat} (H : gk_sg nx' e D) (hn : D.Nodup) (hs : s ∉ D) :
    ∃ nx'', (∀ j, j ∉ D → nx'' j = nx' j) ∧ gk_sg nx'' (nx' s) (D ++ [s]) ∧ (D = [] → nx'' = nx') ∧ (∀ l t, D = l ++ [t] → nx'' = upd nx' t (nI s)) := by
  rcases gk_snoc D with rfl | ⟨l, t, rfl⟩
  · exact ⟨nx', fun _ _ => rfl, ⟨rfl, trivial⟩, fun _ => rfl, fun l t e => by simp at e⟩
  · have hl : t ∉ l := by
      rw [List.nodup_append] at hn
      intro ht
      exact hn.2.2 t ht t (by simp) rfl
    have hst : s ≠ t := fun z => hs (by rw [z]; simp)
    refine ⟨upd nx' t (nI s), ?_, ?_, fun z => by simp at z, ?_⟩
    · intro j hj; exact pk_un (fun z => hj (by rw [z]; simp))
    · rw [gk_sg_app]
      exact ⟨gk_sg_set hl H, by rw [pk_un hst]; rfl, trivial⟩
    · intro l' t' e'
      have := (List.append_inj' e' rfl).2
      simp at this
      rw [this]
theorem gk_m_hd {D : List Nat} {s : Nat} : gk_hd (-1) (D ++ [s]) = gk_hd (nI s) D := by rw [gk_hd_app]; rfl
theorem gk_m105 {post : SX → Prop} {J : Int32 → Int32 → Int32 → Int32 → Int32 → (Nat → Int32) → (Nat → Int32) → (Nat → Int32) → (Nat → Int32) → (Nat → Int32) → (Nat → Int32) → (Nat → Int32) → (Nat → Int32) → (Nat → Int32) → (Nat → Int32) → (Nat → Int32) → (Nat → Int32) → (Nat → Int32) → (Nat → Int32) → (Nat → Int32) → (Nat → Int32) → (Nat → Int32) → (Nat → Int32) → (Nat → Int32) → (Nat → Int32) → (Nat → Int32) → (Nat → Int32) → (Nat → Int32) → (Nat → Int32) → (Nat → Int32) → (Nat → Int32) → (Nat → Int32) → (Nat → Int32) → (Nat → Int32) → (Nat → Int32) → Prop} {x1 x2 x3 x4 : Int32} {D : List Nat} {s : Nat} {nx' nx'' ow' : Nat → Int32} (hD : ∀ j, j ∈ D → j < 24) (hs : s < 24)
    (h1 : D = [] → nx'' = nx') (h2 : ∀ l t, D = l ++ [t] → nx'' = upd nx' t (nI s))
    (K : J x3 x4 (gk_hd (-1) (D ++ [s])) (gk_la (D ++ [s])) (nI (D ++ [s]).length) a_modeOf a_depthOf a_cursorOf a_notedOf a_passedOf a_seenOf a_groupOf a_groupBit a_groupStart a_leafHeld a_leafIdled a_stateOf a_keyOf a_valueOf a_linkOf a_birthsOf a_reclaimOf a_recordTicket ow' a_recordKind a_recordTag a_recordHops a_recordNeed nx'' a_slotOfTicket a_firstRecord a_firstWaiting a_lastRecord a_ownedCount a_readyCount) :
    wX_mergeLists_105 post J x1 x2 x3 x4 (gk_hd (-1) D) (gk_la D) (nI D.length) (nI s) (nI P) (nI N) (nI R) (nI G) f_onlineMask f_rootHeld f_freeNodes f_head f_freeSlot f_queued f_running (nI C) (nI I) f_newestNeed f_bound f_boundLeft f_last f_digest a_modeOf a_depthOf a_cursorOf a_notedOf a_passedOf a_seenOf a_groupOf a_groupBit a_groupStart a_leafHeld a_leafIdled a_stateOf a_keyOf a_valueOf a_linkOf a_birthsOf a_reclaimOf a_recordTicket ow' a_recordKind a_recordTag a_recordHops a_recordNeed nx' a_slotOfTicket a_firstRecord a_firstWaiting a_lastRecord a_ownedCount a_readyCount := by
  rw [gk_m_hd, gk_la_c, List.length_append, List.length_singleton] at K
  rcases gk_snoc D with rfl | ⟨l, t, rfl⟩
  · rw [h1 rfl] at K
    exact br_t rfl (nm_r (nI_1 0) K)
  · rw [h2 l t rfl] at K
    have ht : t < 24 := hD t (by simp)
    have e : gk_hd (nI s) (l ++ [t]) = gk_hd (-1) (l ++ [t]) := by cases l <;> rfl
    rw [e] at K
    rw [gk_la_c]
    exact br_f (gk_ne1 (by omega)) ⟨vp_in_nI ht (by omega), nm_r (e' := upd nx' t (nI s)) (by rw [nI_clamp (by omega)]) (nm_r (nI_1 _) K)⟩
/-- one more from p's list -/
theorem gk_MI_a {p h : Nat} {Lp Lh : List Nat} {Md Mr : List gk_Rec} {r : gk_Rec} {D La Lb : List Nat} {s : Nat} {ow' nx' nx'' : Nat → Int32} (hne : p ≠ h) (hp : p < 2 ^ 31) (hh : h < 2 ^ 31)
    (H : gk_MI R p h a_recordTicket a_recordOwner a_recordKind a_recordTag a_recordHops a_recordNeed a_recordNext Lp Lh Md (r :: Mr) D (s :: La) Lb ow' nx') (hr : gk_ow p r = true)
    (n1 : ∀ j, j ∉ D → nx'' j = nx' j) (n2 : gk_sg nx'' (nx' s) (D ++ [s])) :
    (gk_d a_recordTicket a_recordOwner a_recordKind a_recordTag a_recordHops a_recordNeed) s = r ∧ gk_MI R p h a_recordTicket a_recordOwner a_recordKind a_recordTag a_recordHops a_recordNeed a_recordNext Lp Lh (Md ++ [r]) Mr (D ++ [s]) La Lb (upd ow' s (nI h)) nx'' := by
  obtain ⟨i1, i2, i3, i4, i5, i6, i7, i8, i9, i10, i11⟩ := H
  rw [List.filter_cons_of_pos hr, List.map_cons] at i1
  have hd := (List.cons.inj i1).1
  have nh : ¬ gk_ow h r = true := by
    rw [gk_ow_i]; intro z; rw [gk_ow_i, z] at hr
    exact hne (gk_inj hr hh hp).symm
  rw [List.filter_cons_of_neg nh] at i2
  have nd := i4
  rw [List.nodup_append] at nd
  obtain ⟨nd1, nd2, nd3⟩ := nd
  have sD : s ∉ D := fun z => nd3 s z s (by simp) rfl
  have nd2' := nd2
  rw [List.cons_append, List.nodup_cons] at nd2'
  have jD : ∀ j, j ∈ La ++ Lb → j ∉ D := fun j hj z => nd3 j z j (by simp only [List.cons_append, List.mem_cons]; exact Or.inr hj) rfl
  refine ⟨hd, (List.cons.inj i1).2, i2, ?_, ?_, ?_, gk_sg_c (fun j hj => n1 j (jD j (by simp [hj]))) i6.2, gk_sg_c (fun j hj => n1 j (jD j (by simp [hj]))) i7, ⟨nx' s, n2, fun _ => Or.inl i6.1⟩, ?_, fun r' hr' => i10 r' (by simp [hr']), ?_⟩
  · rw [List.map_append, List.map_append, ← i3]
    congr 1
    · apply List.map_congr_left
      intro j hj
      have : j ≠ s := fun z => sD (z ▸ hj)
      unfold gk_d; rw [pk_un this]
    · simp only [List.map_cons, List.map_nil, List.cons.injEq, and_true]
      rw [gk_mv_t hr, ← hd]
      unfold gk_d; rw [pk_us]
  · rw [List.append_assoc]; exact i4
  · intro j hj; rw [List.append_assoc] at hj; exact i5 j hj
  · intro j hj
    have h1 : j ∉ D := fun z => hj (by simp [z])
    have h2 : j ≠ s := fun z => hj (by simp [z])
    rw [pk_un h2, n1 j h1]
    exact i9 j h1
  · simp at i11 ⊢; omega
theorem gk_MI_b {p h : Nat} {Lp Lh : List Nat} {Md Mr : List gk_Rec} {r : gk_Rec} {D La Lb : List Nat} {s : Nat} {ow' nx' nx'' : Nat → Int32} (hne : p ≠ h) (hp : p < 2 ^ 31) (hh : h < 2 ^ 31)
    (H : gk_MI R p h a_recordTicket a_recordOwner a_recordKind a_recordTag a_recordHops a_recordNeed a_recordNext Lp Lh Md (r :: Mr) D La (s :: Lb) ow' nx') (hr : gk_ow h r = true)
    (n1 : ∀ j, j ∉ D → nx'' j = nx' j) (n2 : gk_sg nx'' (nx' s) (D ++ [s])) :
    (gk_d a_recordTicket a_recordOwner a_recordKind a_recordTag a_recordHops a_recordNeed) s = r ∧ gk_MI R p h a_recordTicket a_recordOwner a_recordKind a_recordTag a_recordHops a_recordNeed a_recordNext Lp Lh (Md ++ [r]) Mr (D ++ [s]) La Lb ow' nx'' := by
  obtain ⟨i1, i2, i3, i4, i5, i6, i7, i8, i9, i10, i11⟩ := H
  rw [List.filter_cons_of_pos hr, List.map_cons] at i2
  have hd := (List.cons.inj i2).1
  have nh : ¬ gk_ow p r = true := by
    rw [gk_ow_i]; intro z; rw [gk_ow_i, z] at hr
    exact hne (gk_inj hr hp hh)
  rw [List.filter_cons_of_neg nh] at i1
  have pm : (D ++ (La ++ s :: Lb)).Perm ((D ++ [s]) ++ (La ++ Lb)) := by
    rw [List.append_assoc]
    exact List.Perm.append_left D List.perm_middle
  have nd := (pm.nodup_iff).mp i4
  have nd' := nd
  rw [List.append_assoc, List.nodup_append] at nd'
  obtain ⟨nd1, nd2, nd3⟩ := nd'
  have sD : s ∉ D := fun z => nd3 s z s (by simp) rfl
  have jD : ∀ j, j ∈ La ++ Lb → j ∉ D := fun j hj z => nd3 j z j (by simp only [List.cons_append, List.mem_cons]; exact Or.inr hj) rfl
  refine ⟨hd, i1, (List.cons.inj i2).2, ?_, nd, ?_, gk_sg_c (fun j hj => n1 j (jD j (by simp [hj]))) i6, gk_sg_c (fun j hj => n1 j (jD j (by simp [hj]))) i7.2, ⟨nx' s, n2, fun _ => Or.inr i7.1⟩, ?_, fun r' hr' => i10 r' (by simp [hr']), ?_⟩
  · rw [List.map_append, List.map_append, ← i3]
    congr 1
    simp only [List.map_cons, List.map_nil, List.cons.injEq, and_true]
    rw [gk_mv_f nh, ← hd]
    unfold gk_d; rw [(i9 s sD).1]
  · intro j hj; exact i5 j (pm.mem_iff.mpr hj)
  · intro j hj
    have h1 : j ∉ D := fun z => hj (by simp [z])
    rw [n1 j h1]
    exact i9 j h1
  · simp at i11 ⊢; omega
end
end
section
section
variable {k : Nat}
variable {P W N R G C I : Nat} {RL : List gk_Rec}
variable {f_onlineMask f_rootHeld f_freeNodes f_head f_freeSlot f_queued f_running f_newestNeed f_bound f_boundLeft f_last f_digest : Int32}
variable {a_modeOf a_depthOf a_cursorOf a_notedOf a_passedOf a_seenOf a_groupOf a_groupBit a_groupStart a_leafHeld a_leafIdled a_stateOf a_keyOf a_valueOf a_linkOf a_birthsOf a_reclaimOf a_recordTicket a_recordOwner a_recordKind a_recordTag a_recordHops a_recordNeed a_recordNext a_slotOfTicket a_firstRecord a_firstWaiting a_lastRecord a_ownedCount a_readyCount a_cursor a_holder a_idled a_keys a_values a_kept a_rTicket a_rOwner a_rKind a_rTag a_rHops a_rNeed : Nat → Int32}
theorem gk_m71 {post : SX → Prop} {J : Int32 → Int32 → Int32 → Int32 → Int32 → (Nat → Int32) → (Nat → Int32) → (Nat → Int32) → (Nat → Int32) → (Nat → Int32) → (Nat → Int32) → (Nat → Int32) → (Nat → Int32) → (Nat → Int32) → (Nat → Int32) → (Nat → Int32) → (Nat → Int32) → (Nat → Int32) → (Nat → Int32) → (Nat → Int32) → (Nat → Int32) → (Nat → Int32) → (Nat → Int32) → (Nat → Int32) → (Nat → Int32) → (Nat → Int32) → (Nat → Int32) → (Nat → Int32) → (Nat → Int32) → (Nat → Int32) → (Nat → Int32) → (Nat → Int32) → (Nat → Int32) → (Nat → Int32) → (Nat → Int32) → Prop} {x1 x4 : Int32} {h : Nat} {D La : List Nat} {s : Nat} {nx' nx'' ow' : Nat → Int32} (hD : ∀ j, j ∈ D → j < 24) (hs : s < 24)
    (hn : nx' s = gk_hd (-1) La) (h1 : D = [] → nx'' = nx') (h2 : ∀ l t, D = l ++ [t] → nx'' = upd nx' t (nI s))
    (K : J (gk_hd (-1) La) x4 (gk_hd (-1) (D ++ [s])) (gk_la (D ++ [s])) (nI (D ++ [s]).length) a_modeOf a_depthOf a_cursorOf a_notedOf a_passedOf a_seenOf a_groupOf a_groupBit a_groupStart a_leafHeld a_leafIdled a_stateOf a_keyOf a_valueOf a_linkOf a_birthsOf a_reclaimOf a_recordTicket (upd ow' s (nI h)) a_recordKind a_recordTag a_recordHops a_recordNeed nx'' a_slotOfTicket a_firstRecord a_firstWaiting a_lastRecord a_ownedCount a_readyCount) :
    wX_mergeLists_71 post J x1 (nI h) (nI s) x4 (gk_hd (-1) D) (gk_la D) (nI D.length) (nI P) (nI N) (nI R) (nI G) f_onlineMask f_rootHeld f_freeNodes f_head f_freeSlot f_queued f_running (nI C) (nI I) f_newestNeed f_bound f_boundLeft f_last f_digest a_modeOf a_depthOf a_cursorOf a_notedOf a_passedOf a_seenOf a_groupOf a_groupBit a_groupStart a_leafHeld a_leafIdled a_stateOf a_keyOf a_valueOf a_linkOf a_birthsOf a_reclaimOf a_recordTicket ow' a_recordKind a_recordTag a_recordHops a_recordNeed nx' a_slotOfTicket a_firstRecord a_firstWaiting a_lastRecord a_ownedCount a_readyCount := by
  have hin : vp_in (nI s) 24 := vp_in_nI hs (by omega)
  have c : (nI s).toNatClampNeg = s := nI_clamp (by omega)
  refine ⟨hin, nm_r (e' := gk_hd (-1) La) (by rw [c]; exact hn) ⟨hin, nm_r (e' := upd ow' s (nI h)) (by rw [c]) ?_⟩⟩
  exact gk_m105 hD hs h1 h2 K
theorem gk_m92 {post : SX → Prop} {J : Int32 → Int32 → Int32 → Int32 → Int32 → (Nat → Int32) → (Nat → Int32) → (Nat → Int32) → (Nat → Int32) → (Nat → Int32) → (Nat → Int32) → (Nat → Int32) → (Nat → Int32) → (Nat → Int32) → (Nat → Int32) → (Nat → Int32) → (Nat → Int32) → (Nat → Int32) → (Nat → Int32) → (Nat → Int32) → (Nat → Int32) → (Nat → Int32) → (Nat → Int32) → (Nat → Int32) → (Nat → Int32) → (Nat → Int32) → (Nat → Int32) → (Nat → Int32) → (Nat → Int32) → (Nat → Int32) → (Nat → Int32) → (Nat → Int32) → (Nat → Int32) → (Nat → Int32) → (Nat → Int32) → Prop} {x1 x2 x3 : Int32} {D Lb : List Nat} {s : Nat} {nx' nx'' ow' : Nat → Int32} (hD : ∀ j, j ∈ D → j < 24) (hs : s < 24)
    (hn : nx' s = gk_hd (-1) Lb) (h1 : D = [] → nx'' = nx') (h2 : ∀ l t, D = l ++ [t] → nx'' = upd nx' t (nI s))
    (K : J x3 (gk_hd (-1) Lb) (gk_hd (-1) (D ++ [s])) (gk_la (D ++ [s])) (nI (D ++ [s]).length) a_modeOf a_depthOf a_cursorOf a_notedOf a_passedOf a_seenOf a_groupOf a_groupBit a_groupStart a_leafHeld a_leafIdled a_stateOf a_keyOf a_valueOf a_linkOf a_birthsOf a_reclaimOf a_recordTicket ow' a_recordKind a_recordTag a_recordHops a_recordNeed nx'' a_slotOfTicket a_firstRecord a_firstWaiting a_lastRecord a_ownedCount a_readyCount) :
    wX_mergeLists_92 post J x1 x2 x3 (nI s) (gk_hd (-1) D) (gk_la D) (nI D.length) (nI P) (nI N) (nI R) (nI G) f_onlineMask f_rootHeld f_freeNodes f_head f_freeSlot f_queued f_running (nI C) (nI I) f_newestNeed f_bound f_boundLeft f_last f_digest a_modeOf a_depthOf a_cursorOf a_notedOf a_passedOf a_seenOf a_groupOf a_groupBit a_groupStart a_leafHeld a_leafIdled a_stateOf a_keyOf a_valueOf a_linkOf a_birthsOf a_reclaimOf a_recordTicket ow' a_recordKind a_recordTag a_recordHops a_recordNeed nx' a_slotOfTicket a_firstRecord a_firstWaiting a_lastRecord a_ownedCount a_readyCount := by
  have hin : vp_in (nI s) 24 := vp_in_nI hs (by omega)
  have c : (nI s).toNatClampNeg = s := nI_clamp (by omega)
  refine ⟨hin, nm_r (e' := gk_hd (-1) Lb) (by rw [c]; exact hn) ?_⟩
  exact gk_m105 hD hs h1 h2 K
theorem gk_xmerge_l {post : SX → Prop} {p h : Nat} {Lp Lh : List Nat} {M : List gk_Rec} (hp : p < 8) (hh : h < 8) (hne : p ≠ h) (hR : R ≤ 24) (hL : ∀ s, s ∈ Lp ++ Lh → s < R)
    (hM : M.length ≤ R) (hpw : M.Pairwise gk_lt)
    (K : ∀ D ow' nx', D.map (gk_d a_recordTicket ow' a_recordKind a_recordTag a_recordHops a_recordNeed) = M.map (gk_mv p h) → D.Nodup → (∀ s, s ∈ D → s ∈ Lp ++ Lh) → gk_sg nx' (-1) D → (∀ s, s ∉ D → ow' s = a_recordOwner s ∧ nx' s = a_recordNext s) →
      D.length = Lp.length + Lh.length → wX_mergeLists_137 post (nI p) (nI h) (gk_hd (-1) D) (gk_la D) (nI P) (nI N) (nI R) (nI G) f_onlineMask f_rootHeld f_freeNodes f_head f_freeSlot f_queued f_running (nI C) (nI I) f_newestNeed f_bound f_boundLeft f_last f_digest a_modeOf a_depthOf a_cursorOf a_notedOf a_passedOf a_seenOf a_groupOf a_groupBit a_groupStart a_leafHeld a_leafIdled a_stateOf a_keyOf a_valueOf a_linkOf a_birthsOf a_reclaimOf a_recordTicket ow' a_recordKind a_recordTag a_recordHops a_recordNeed nx' a_slotOfTicket a_firstRecord a_firstWaiting a_lastRecord a_ownedCount a_readyCount) :
    ∀ (Mr Md : List gk_Rec) (D La Lb : List Nat) (ow' nx' : Nat → Int32) (n : Nat), M = Md ++ Mr → Mr.length < n → gk_MI R p h a_recordTicket a_recordOwner a_recordKind a_recordTag a_recordHops a_recordNeed a_recordNext Lp Lh Md Mr D La Lb ow' nx' →
    wX_mergeLists_24 post (nI p) (nI h) (nI P) (nI N) (nI R) (nI G) f_onlineMask f_rootHeld f_freeNodes f_head f_freeSlot f_queued f_running (nI C) (nI I) f_newestNeed f_bound f_boundLeft f_last f_digest n (gk_hd (-1) La) (gk_hd (-1) Lb) (gk_hd (-1) D) (gk_la D) (nI D.length) a_modeOf a_depthOf a_cursorOf a_notedOf a_passedOf a_seenOf a_groupOf a_groupBit a_groupStart a_leafHeld a_leafIdled a_stateOf a_keyOf a_valueOf a_linkOf a_birthsOf a_reclaimOf a_recordTicket ow' a_recordKind a_recordTag a_recordHops a_recordNeed nx' a_slotOfTicket a_firstRecord a_firstWaiting a_lastRecord a_ownedCount a_readyCount := by
  intro Mr
  induction Mr with
  | nil =>
    intro Md D La Lb ow' nx' n e hn H
    obtain ⟨i1, i2, i3, i4, i5, i6, i7, ⟨x, i8, i8'⟩, i9, i10, i11⟩ := H
    have hLa : La = [] := List.map_eq_nil_iff.mp i1
    have hLb : Lb = [] := List.map_eq_nil_iff.mp i2
    subst hLa hLb
    rw [List.append_nil] at e
    subst e
    have hl := congrArg List.length i3
    rw [List.length_map, List.length_map] at hl
    have sg : gk_sg nx' (-1) D := by
      by_cases z : D = []
      · subst z; trivial
      · have : x = -1 := by rcases i8' z with e | e <;> exact e
        rw [← this]; exact i8
    have fin := K D ow' nx' i3 (List.nodup_append.mp i4).1 (fun s hs => i5 s (by simp [hs])) sg i9 (by simpa using i11)
    cases n with
    | zero => simp at hn
    | succ n =>
      by_cases z : R ≤ D.length
      · exact br_t (nI_le z (by omega)) fin
      · exact br_f (nI_ge (by omega) (by omega)) (br_t rfl (br_t rfl fin))
  | cons r Mr ih =>
    intro Md D La Lb ow' nx' n e hn H
    cases n with
    | zero => simp at hn
    | succ n =>
    simp only [List.length_cons] at hn
    have H0 := H
    obtain ⟨i1, i2, i3, i4, i5, i6, i7, ⟨x, i8, i8'⟩, i9, i10, i11⟩ := H
    have hl := congrArg List.length i3
    rw [List.length_map, List.length_map] at hl
    have hM' : Md.length + (Mr.length + 1) ≤ R := by rw [e] at hM; simpa using hM
    have hD24 : ∀ j, j ∈ D → j < 24 := fun j hj => Nat.lt_of_lt_of_le (hL j (i5 j (by simp [hj]))) hR
    have nD := (List.nodup_append.mp i4).1
    rw [e, List.pairwise_append, List.pairwise_cons] at hpw
    refine br_f (nI_ge (by omega) (by omega)) ?_
    rcases i10 r (by simp) with hr | hr
    · cases La with
      | nil => rw [List.filter_cons_of_pos hr] at i1; simp at i1
      | cons s La =>
        have hs24 : s < 24 := Nat.lt_of_lt_of_le (hL s (i5 s (by simp))) hR
        have sD : s ∉ D := fun z => (List.nodup_append.mp i4).2.2 s z s (by simp) rfl
        obtain ⟨nx'', n1, n2, n3, n4⟩ := gk_m_link i8 nD sD
        obtain ⟨hd, MI'⟩ := gk_MI_a hne (by omega) (by omega) H0 hr n1 n2
        have K71 : wX_mergeLists_71 post (wX_mergeLists_24 post (nI p) (nI h) (nI P) (nI N) (nI R) (nI G) f_onlineMask f_rootHeld f_freeNodes f_head f_freeSlot f_queued f_running (nI C) (nI I) f_newestNeed f_bound f_boundLeft f_last f_digest n) (nI p) (nI h) (nI s) (gk_hd (-1) Lb) (gk_hd (-1) D) (gk_la D) (nI D.length) (nI P) (nI N) (nI R) (nI G) f_onlineMask f_rootHeld f_freeNodes f_head f_freeSlot f_queued f_running (nI C) (nI I) f_newestNeed f_bound f_boundLeft f_last f_digest a_modeOf a_depthOf a_cursorOf a_notedOf a_passedOf a_seenOf a_groupOf a_groupBit a_groupStart a_leafHeld a_leafIdled a_stateOf a_keyOf a_valueOf a_linkOf a_birthsOf a_reclaimOf a_recordTicket ow' a_recordKind a_recordTag a_recordHops a_recordNeed nx' a_slotOfTicket a_firstRecord a_firstWaiting a_lastRecord a_ownedCount a_readyCount := by
          refine gk_m71 hD24 hs24 i6.1 n3 n4 ?_
          exact ih (Md ++ [r]) (D ++ [s]) La Lb _ _ n (by rw [e]; simp) (by omega) MI'
        refine br_f (gk_ne1 (a := s) (by omega)) ?_
        cases Lb with
        | nil => exact br_t rfl K71
        | cons s' Lb =>
          have hs24' : s' < 24 := Nat.lt_of_lt_of_le (hL s' (i5 s' (by simp))) hR
          have hmem : (gk_d a_recordTicket a_recordOwner a_recordKind a_recordTag a_recordHops a_recordNeed) s' ∈ Mr := by
            have : (gk_d a_recordTicket a_recordOwner a_recordKind a_recordTag a_recordHops a_recordNeed) s' ∈ Mr.filter (gk_ow h) := by rw [← MI'.2.1]; simp
            exact (List.mem_filter.mp this).1
          have hlt : r.1 < ((gk_d a_recordTicket a_recordOwner a_recordKind a_recordTag a_recordHops a_recordNeed) s').1 := (hpw.2.1.1 _ hmem).1
          refine br_f (gk_ne1 (a := s') (by omega)) (br_f (gk_ne1 (a := s) (by omega)) ⟨vp_in_nI hs24 (by omega), vp_in_nI hs24' (by omega), br_f ?_ K71⟩)
          show ¬ a_recordTicket (nI s').toNatClampNeg ≤ a_recordTicket (nI s).toNatClampNeg
          rw [nI_clamp (by omega), nI_clamp (by omega), gk_nle]
          rw [← hd] at hlt
          exact hlt
    · cases Lb with
      | nil => rw [List.filter_cons_of_pos hr] at i2; simp at i2
      | cons s Lb =>
        have hs24 : s < 24 := Nat.lt_of_lt_of_le (hL s (i5 s (by simp))) hR
        have sD : s ∉ D := fun z => (List.nodup_append.mp i4).2.2 s z s (by simp) rfl
        obtain ⟨nx'', n1, n2, n3, n4⟩ := gk_m_link i8 nD sD
        obtain ⟨hd, MI'⟩ := gk_MI_b hne (by omega) (by omega) H0 hr n1 n2
        have K92 : wX_mergeLists_92 post (wX_mergeLists_24 post (nI p) (nI h) (nI P) (nI N) (nI R) (nI G) f_onlineMask f_rootHeld f_freeNodes f_head f_freeSlot f_queued f_running (nI C) (nI I) f_newestNeed f_bound f_boundLeft f_last f_digest n) (nI p) (nI h) (gk_hd (-1) La) (nI s) (gk_hd (-1) D) (gk_la D) (nI D.length) (nI P) (nI N) (nI R) (nI G) f_onlineMask f_rootHeld f_freeNodes f_head f_freeSlot f_queued f_running (nI C) (nI I) f_newestNeed f_bound f_boundLeft f_last f_digest a_modeOf a_depthOf a_cursorOf a_notedOf a_passedOf a_seenOf a_groupOf a_groupBit a_groupStart a_leafHeld a_leafIdled a_stateOf a_keyOf a_valueOf a_linkOf a_birthsOf a_reclaimOf a_recordTicket ow' a_recordKind a_recordTag a_recordHops a_recordNeed nx' a_slotOfTicket a_firstRecord a_firstWaiting a_lastRecord a_ownedCount a_readyCount := by
          refine gk_m92 hD24 hs24 i7.1 n3 n4 ?_
          exact ih (Md ++ [r]) (D ++ [s]) La Lb _ _ n (by rw [e]; simp) (by omega) MI'
        cases La with
        | nil => exact br_t rfl (br_f (gk_ne1 (a := s) (by omega)) (br_f (gk_ne1 (a := s) (by omega)) (br_t rfl K92)))
        | cons s' La =>
          have hs24' : s' < 24 := Nat.lt_of_lt_of_le (hL s' (i5 s' (by simp))) hR
          have hmem : (gk_d a_recordTicket a_recordOwner a_recordKind a_recordTag a_recordHops a_recordNeed) s' ∈ Mr := by
            have : (gk_d a_recordTicket a_recordOwner a_recordKind a_recordTag a_recordHops a_recordNeed) s' ∈ Mr.filter (gk_ow p) := by rw [← MI'.1]; simp
            exact (List.mem_filter.mp this).1
          have hlt : r.1 < ((gk_d a_recordTicket a_recordOwner a_recordKind a_recordTag a_recordHops a_recordNeed) s').1 := (hpw.2.1.1 _ hmem).1
          refine br_f (gk_ne1 (a := s') (by omega)) (br_f (gk_ne1 (a := s) (by omega)) (br_f (gk_ne1 (a := s') (by omega)) ⟨vp_in_nI hs24' (by omega), vp_in_nI hs24 (by omega), br_t ?_ K92⟩))
          show a_recordTicket (nI s).toNatClampNeg ≤ a_recordTicket (nI s').toNatClampNeg
          rw [nI_clamp (by omega), nI_clamp (by omega)]
          rw [← hd] at hlt
          have h2 : a_recordTicket s < a_recordTicket s' := hlt
          rw [Int32.lt_iff_toInt_lt] at h2
          rw [Int32.le_iff_toInt_le]
          omega
theorem gk_xclear {post : SX → Prop} {p : Nat} (hp : p < 8) (h : post (nI P, nI N, nI R, nI G, f_onlineMask, f_rootHeld, f_freeNodes, f_head, f_freeSlot, f_queued, f_running, nI C, nI I, f_newestNeed, f_bound, f_boundLeft, f_last, f_digest, a_modeOf, a_depthOf, a_cursorOf, a_notedOf, a_passedOf, a_seenOf, a_groupOf, a_groupBit, a_groupStart, a_leafHeld, a_leafIdled, a_stateOf, a_keyOf, a_valueOf, a_linkOf, a_birthsOf, a_reclaimOf, a_recordTicket, a_recordOwner, a_recordKind, a_recordTag, a_recordHops, a_recordNeed, a_recordNext, a_slotOfTicket, upd a_firstRecord p (-1), upd a_firstWaiting p (-1), upd a_lastRecord p (-1), upd a_ownedCount p 0, upd a_readyCount p 0)) :
    wpX_clearList post (nI P, nI N, nI R, nI G, f_onlineMask, f_rootHeld, f_freeNodes, f_head, f_freeSlot, f_queued, f_running, nI C, nI I, f_newestNeed, f_bound, f_boundLeft, f_last, f_digest, a_modeOf, a_depthOf, a_cursorOf, a_notedOf, a_passedOf, a_seenOf, a_groupOf, a_groupBit, a_groupStart, a_leafHeld, a_leafIdled, a_stateOf, a_keyOf, a_valueOf, a_linkOf, a_birthsOf, a_reclaimOf, a_recordTicket, a_recordOwner, a_recordKind, a_recordTag, a_recordHops, a_recordNeed, a_recordNext, a_slotOfTicket, a_firstRecord, a_firstWaiting, a_lastRecord, a_ownedCount, a_readyCount) (nI p) := by
  have hip : vp_in (nI p) 8 := vp_in_nI hp (by omega)
  have cp : (nI p).toNatClampNeg = p := nI_clamp (by omega)
  exact ⟨hip, nm_r (e' := upd a_firstRecord p (-1)) (by rw [cp]) ⟨hip, nm_r (e' := upd a_firstWaiting p (-1)) (by rw [cp]) ⟨hip, nm_r (e' := upd a_lastRecord p (-1)) (by rw [cp]) ⟨hip, nm_r (e' := upd a_ownedCount p 0) (by rw [cp]) ⟨hip, nm_r (e' := upd a_readyCount p 0) (by rw [cp]) h⟩⟩⟩⟩⟩
/-- p's records go over to h -/
theorem gk_xmerge {post : SX → Prop} {p h : Nat} (hp : p < P) (hh : h < P) (hne : p ≠ h) (hP : P ≤ 8) (hR : R ≤ 24) (hm : a_modeOf h ≠ 0) (H : (gk_XQ P C I f_running f_newestNeed a_modeOf RL R a_recordTicket a_recordOwner a_recordKind a_recordTag a_recordHops a_recordNeed a_recordNext a_slotOfTicket a_seenOf a_firstRecord a_firstWaiting a_lastRecord a_ownedCount a_readyCount f_freeSlot f_queued f_bound f_boundLeft))
    (K : ∀ D ow' nx' fr' fw' la' oc' rc',
      (∀ q, q < P → q ≠ h → ∃ A B, gk_QL R (RL.map (gk_mv p h)) (gk_d a_recordTicket ow' a_recordKind a_recordTag a_recordHops a_recordNeed) nx' a_slotOfTicket (upd a_seenOf p 0 q) (fr' q) (fw' q) (la' q) (oc' q) (rc' q) q A B) →
      gk_L0 R (RL.map (gk_mv p h)) (gk_d a_recordTicket ow' a_recordKind a_recordTag a_recordHops a_recordNeed) nx' a_slotOfTicket (fr' h) (la' h) (oc' h) h D → fw' h = gk_hd (-1) D → rc' h = nI 0 →
      (gk_QA P C I f_running f_newestNeed (upd a_modeOf p 0) (RL.map (gk_mv p h))) → (gk_QC R I a_recordTicket ow' a_recordKind a_recordTag a_recordHops a_recordNeed nx' f_freeSlot (RL.map (gk_mv p h))) → (gk_QD I a_slotOfTicket (RL.map (gk_mv p h))) → (gk_QS I f_queued f_bound f_boundLeft (RL.map (gk_mv p h))) →
      (∀ q, q < P → q ≠ h → ∃ A B, gk_QL R (RL.map (gk_mv p h)) (gk_d a_recordTicket ow' a_recordKind a_recordTag a_recordHops a_recordNeed) nx' a_slotOfTicket (a_seenOf q) (fr' q) (fw' q) (la' q) (oc' q) (rc' q) q A B) →
      post (nI P, nI N, nI R, nI G, f_onlineMask, f_rootHeld, f_freeNodes, f_head, f_freeSlot, f_queued, f_running, nI C, nI I, f_newestNeed, f_bound, f_boundLeft, f_last, f_digest, a_modeOf, a_depthOf, a_cursorOf, a_notedOf, a_passedOf, a_seenOf, a_groupOf, a_groupBit, a_groupStart, a_leafHeld, a_leafIdled, a_stateOf, a_keyOf, a_valueOf, a_linkOf, a_birthsOf, a_reclaimOf, a_recordTicket, ow', a_recordKind, a_recordTag, a_recordHops, a_recordNeed, nx', a_slotOfTicket, fr', fw', la', oc', rc')) :
    wpX_mergeLists post (nI P, nI N, nI R, nI G, f_onlineMask, f_rootHeld, f_freeNodes, f_head, f_freeSlot, f_queued, f_running, nI C, nI I, f_newestNeed, f_bound, f_boundLeft, f_last, f_digest, a_modeOf, a_depthOf, a_cursorOf, a_notedOf, a_passedOf, a_seenOf, a_groupOf, a_groupBit, a_groupStart, a_leafHeld, a_leafIdled, a_stateOf, a_keyOf, a_valueOf, a_linkOf, a_birthsOf, a_reclaimOf, a_recordTicket, a_recordOwner, a_recordKind, a_recordTag, a_recordHops, a_recordNeed, a_recordNext, a_slotOfTicket, a_firstRecord, a_firstWaiting, a_lastRecord, a_ownedCount, a_readyCount) (nI p) (nI h) := by
  obtain ⟨HA, HB, HC, HD, HS⟩ := H
  obtain ⟨a1, a2, a3, a4, a5, a6⟩ := HA
  obtain ⟨Ap, Bp, HLp⟩ := HB p hp
  obtain ⟨Ah, Bh, HLh⟩ := HB h hh
  have hip : vp_in (nI p) 8 := vp_in_nI (by omega) (by omega)
  have hih : vp_in (nI h) 8 := vp_in_nI (by omega) (by omega)
  have cp : (nI p).toNatClampNeg = p := nI_clamp (by omega)
  have ch : (nI h).toNatClampNeg = h := nI_clamp (by omega)
  have hlen : RL.length ≤ R := by obtain ⟨FL, _, _, _, f4, _⟩ := HC; omega
  have hfpp : ∀ r : gk_Rec, (gk_ow p r && (gk_ow p r || gk_ow h r)) = gk_ow p r := by intro r; cases gk_ow p r <;> rfl
  have hfhh : ∀ r : gk_Rec, (gk_ow h r && (gk_ow p r || gk_ow h r)) = gk_ow h r := by intro r; cases gk_ow p r <;> cases gk_ow h r <;> rfl
  have hL : ∀ s, s ∈ (Ap ++ Bp) ++ (Ah ++ Bh) → s < R := by
    intro s hs
    rcases List.mem_append.mp hs with hs | hs
    · exact HLp.1.2.1 s hs
    · exact HLh.1.2.1 s hs
  have disj : ∀ s, s ∈ Ap ++ Bp → ∀ t, t ∈ Ah ++ Bh → s ≠ t := by
    intro s hs t ht e
    subst e
    exact hne (gk_inj ((gk_L0_mem HLp.1 hs).2.symm.trans (gk_L0_mem HLh.1 ht).2) (by omega) (by omega))
  refine ⟨hip, nm_r (e' := gk_hd (-1) (Ap ++ Bp)) (by rw [cp]; exact HLp.1.2.2.2.1) ⟨hih, nm_r (e' := gk_hd (-1) (Ah ++ Bh)) (by rw [ch]; exact HLh.1.2.2.2.1) ⟨(RL.filter (fun r => gk_ow p r || gk_ow h r)).length + 1, ?_⟩⟩⟩
  refine gk_xmerge_l (a_recordNext := a_recordNext) (a_recordOwner := a_recordOwner) (Lp := Ap ++ Bp) (Lh := Ah ++ Bh) (by omega) (by omega) hne hR hL (Nat.le_trans (List.length_filter_le _ _) hlen) (a1.filter _) ?_ (RL.filter (fun r => gk_ow p r || gk_ow h r)) [] [] (Ap ++ Bp) (Ah ++ Bh) a_recordOwner a_recordNext _ rfl (by omega) ?_
  rotate_left
  · refine ⟨?_, ?_, rfl, ?_, fun s hs => by simpa using hs, HLp.1.2.2.1, HLh.1.2.2.1, ⟨0, trivial, fun z => absurd rfl z⟩, fun s _ => ⟨rfl, rfl⟩, ?_, by simp⟩
    · rw [HLp.1.1, List.filter_filter]
      exact (List.filter_congr (fun r _ => hfpp r)).symm
    · rw [HLh.1.1, List.filter_filter]
      exact (List.filter_congr (fun r _ => hfhh r)).symm
    · rw [List.nil_append, List.nodup_append]
      exact ⟨gk_L0_nodup a1 HLp.1, gk_L0_nodup a1 HLh.1, disj⟩
    · intro r hr
      have := (List.mem_filter.mp hr).2
      rw [Bool.or_eq_true] at this
      exact this
  · intro D ow' nx' d1 d2 d3 d4 d5 d6
    have eo : a_ownedCount h + a_ownedCount p = nI D.length := by
      rw [HLp.1.2.2.2.2.2.1, HLh.1.2.2.2.2.2.1, nI_add, d6, Nat.add_comm]
    refine ⟨hih, nm_r (e' := upd a_firstRecord h (gk_hd (-1) D)) (by rw [ch]) ⟨hih, nm_r (e' := upd a_firstWaiting h (gk_hd (-1) D)) (by rw [ch]) ⟨hih, nm_r (e' := upd a_lastRecord h (gk_la D)) (by rw [ch]) ⟨hih, hip, hih, nm_r (e' := upd a_ownedCount h (nI D.length)) (by rw [ch, cp, eo]) ⟨hih, nm_r (e' := upd a_readyCount h 0) (by rw [ch]) ?_⟩⟩⟩⟩⟩
    refine gk_xclear (by omega) ?_
    have hd' : ∀ s, s ∉ D → gk_d a_recordTicket ow' a_recordKind a_recordTag a_recordHops a_recordNeed s = (gk_d a_recordTicket a_recordOwner a_recordKind a_recordTag a_recordHops a_recordNeed) s := by
      intro s hs; unfold gk_d; rw [(d5 s hs).1]
    have hq : ∀ sn : Nat → Int32, (∀ q, q ≠ p → sn q = a_seenOf q) → ∀ q, q < P → q ≠ h → ∃ A B, gk_QL R (RL.map (gk_mv p h)) (gk_d a_recordTicket ow' a_recordKind a_recordTag a_recordHops a_recordNeed) nx' a_slotOfTicket (sn q) (upd (upd a_firstRecord h (gk_hd (-1) D)) p (-1) q) (upd (upd a_firstWaiting h (gk_hd (-1) D)) p (-1) q) (upd (upd a_lastRecord h (gk_la D)) p (-1) q) (upd (upd a_ownedCount h (nI D.length)) p 0 q) (upd (upd a_readyCount h 0) p 0 q) q A B := by
      intro sn hsn q hq hqh
      by_cases e : q = p
      · subst e
        rw [pk_us, pk_us, pk_us, pk_us, pk_us]
        refine ⟨[], [], ⟨?_, fun s hs => by simp at hs, trivial, rfl, rfl, rfl, fun s hs => by simp at hs⟩, rfl, rfl, fun s hs => by simp at hs, fun s hs => by simp at hs⟩
        rw [gk_mv_fp hne (by omega) (by omega)]; rfl
      · obtain ⟨A', B', H'⟩ := HB q hq
        rw [hsn q e, pk_un e, pk_un e, pk_un e, pk_un e, pk_un e, pk_un hqh, pk_un hqh, pk_un hqh, pk_un hqh, pk_un hqh]
        have hsD : ∀ s, s ∈ A' ++ B' → s ∉ D := by
          intro s hs hD
          rcases List.mem_append.mp (d3 s hD) with h1 | h1
          · exact e (gk_inj ((gk_L0_mem H'.1 hs).2.symm.trans (gk_L0_mem HLp.1 h1).2) (by omega) (by omega))
          · exact hqh (gk_inj ((gk_L0_mem H'.1 hs).2.symm.trans (gk_L0_mem HLh.1 h1).2) (by omega) (by omega))
        exact ⟨A', B', gk_QL_frame H' (fun s hs => hd' s (hsD s hs)) (fun s hs => (d5 s (hsD s hs)).2) (fun _ _ => rfl) (gk_mv_fq e hqh (by omega) (by omega) (by omega) RL)⟩
    refine K D ow' nx' _ _ _ _ _ (hq (upd a_seenOf p 0) (fun q hq => pk_un hq)) ?_ ?_ ?_ ?_ ?_ ?_ ?_ (hq a_seenOf (fun _ _ => rfl))
    · rw [pk_un hne.symm, pk_us, pk_un hne.symm, pk_us, pk_un hne.symm, pk_us]
      refine ⟨by rw [gk_mv_fh]; exact d1, fun s hs => hL s (d3 s hs), d4, rfl, rfl, rfl, ?_⟩
      intro s hs
      show a_slotOfTicket ((gk_d a_recordTicket a_recordOwner a_recordKind a_recordTag a_recordHops a_recordNeed) s).1.toNatClampNeg = _
      rcases List.mem_append.mp (d3 s hs) with h1 | h1
      · exact HLp.1.2.2.2.2.2.2 s h1
      · exact HLh.1.2.2.2.2.2.2 s h1
    · rw [pk_un hne.symm, pk_us]
    · rw [pk_un hne.symm, pk_us]; rfl
    · refine ⟨gk_mv_pw a1, ?_, ?_, a4, a5, a6⟩
      · intro r hr
        obtain ⟨r0, h0, rfl⟩ := List.mem_map.mp hr
        obtain ⟨b1, b2, b3, b4, q, hq, hmq, ho⟩ := a2 r0 h0
        rw [(gk_mv_1 p h r0).1, (gk_mv_1 p h r0).2]
        refine ⟨b1, b2, b3, b4, ?_⟩
        by_cases e : gk_ow p r0 = true
        · rw [gk_mv_t e]
          exact ⟨h, hh, by rw [pk_un hne.symm]; exact hm, rfl⟩
        · rw [gk_mv_f e]
          have : q ≠ p := by rintro rfl; exact e (gk_ow_t ho)
          exact ⟨q, hq, by rw [pk_un this]; exact hmq, ho⟩
      · intro hlt
        obtain ⟨r, hr, e⟩ := a3 hlt
        exact ⟨_, List.mem_map_of_mem hr, by rw [(gk_mv_1 p h r).2]; exact e⟩
    · obtain ⟨FL, f1, f2, f3, f4, f5⟩ := HC
      have sF : ∀ s, s ∈ FL → s ∉ D := by
        intro s hs hD
        rcases List.mem_append.mp (d3 s hD) with h1 | h1
        · exact (f5 s hs).2.2 _ (gk_L0_mem HLp.1 h1).1 rfl
        · exact (f5 s hs).2.2 _ (gk_L0_mem HLh.1 h1).1 rfl
      refine ⟨FL, f1, gk_sg_c (fun s hs => (d5 s (sF s hs)).2) f2, f3, by rw [List.length_map]; exact f4, ?_⟩
      intro s hs
      rw [hd' s (sF s hs)]
      refine ⟨(f5 s hs).1, (f5 s hs).2.1, ?_⟩
      intro r hr
      obtain ⟨r0, h0, rfl⟩ := List.mem_map.mp hr
      rw [(gk_mv_1 p h r0).1]
      exact (f5 s hs).2.2 r0 h0
    · intro t h1 h2 h3
      refine HD t h1 h2 ?_
      intro r hr
      have := h3 _ (List.mem_map_of_mem hr)
      rw [(gk_mv_1 p h r).1] at this
      exact this
    · obtain ⟨s1, s2, s3⟩ := HS
      refine ⟨by rw [List.length_map]; exact s1, s2, ?_⟩
      rw [List.countP_map, s3]
      congr 2
      funext r
      simp only [Function.comp, (gk_mv_1 p h r).1]
end
end
section
/-- the least so far -/
def gk_BI (L : List Nat) (ky : Nat → Int32) (j : Nat) (best : Int32) : Prop :=
  (best = -1 ∧ ∀ m, m < j → m ∉ L) ∨ (∃ b, best = nI b ∧ b < j ∧ b ∈ L ∧ ∀ m, m < j → m ∈ L → ky b ≤ ky m)
theorem gk_BI_0 {L : List Nat} {ky : Nat → Int32} : gk_BI L ky 0 (-1) := Or.inl ⟨rfl, fun m hm => absurd hm (by omega)⟩
theorem gk_BI_keep {L : List Nat} {ky : Nat → Int32} {j : Nat} {best : Int32} (H : gk_BI L ky j best) (h : j ∉ L) : gk_BI L ky (j + 1) best := by
  rcases H with ⟨e, H⟩ | ⟨b, e, h1, h2, h3⟩
  · refine Or.inl ⟨e, fun m hm => ?_⟩
    by_cases z : m = j
    · rw [z]; exact h
    · exact H m (by omega)
  · refine Or.inr ⟨b, e, by omega, h2, fun m hm hL => ?_⟩
    have z : m ≠ j := fun z => h (z ▸ hL)
    exact h3 m (by omega) hL
theorem gk_BI_first {L : List Nat} {ky : Nat → Int32} {j : Nat} (H : ∀ m, m < j → m ∉ L) (h : j ∈ L) : gk_BI L ky (j + 1) (nI j) := by
  refine Or.inr ⟨j, rfl, by omega, h, fun m hm hL => ?_⟩
  have : m = j := by
    by_cases z : m = j
    · exact z
    · exact absurd hL (H m (by omega))
  rw [this]; exact gk_lerf _
theorem gk_BI_le {L : List Nat} {ky : Nat → Int32} {j b : Nat} (h1 : b < j) (h2 : b ∈ L) (h3 : ∀ m, m < j → m ∈ L → ky b ≤ ky m) (h : ky b ≤ ky j) : gk_BI L ky (j + 1) (nI b) := by
  refine Or.inr ⟨b, rfl, by omega, h2, fun m hm hL => ?_⟩
  by_cases z : m = j
  · rw [z]; exact h
  · exact h3 m (by omega) hL
theorem gk_BI_gt {L : List Nat} {ky : Nat → Int32} {j b : Nat} (hj : j ∈ L) (h3 : ∀ m, m < j → m ∈ L → ky b ≤ ky m) (h : ¬ ky b ≤ ky j) : gk_BI L ky (j + 1) (nI j) := by
  refine Or.inr ⟨j, rfl, by omega, hj, fun m hm hL => ?_⟩
  by_cases z : m = j
  · rw [z]; exact gk_lerf _
  · have := h3 m (by omega) hL
    rw [Int32.le_iff_toInt_le] at *
    omega
theorem gk_BI_end {L : List Nat} {ky : Nat → Int32} {N : Nat} {best : Int32} (hL : ∀ n, n ∈ L → n < N) (hs : L.Pairwise (fun a b => ky a < ky b)) (H : gk_BI L ky N best) : best = gk_hd (-1) L := by
  cases L with
  | nil =>
    rcases H with ⟨e, _⟩ | ⟨b, _, _, h2, _⟩
    · exact e
    · simp at h2
  | cons h t =>
    have hh : h ∈ h :: t := by simp
    rcases H with ⟨_, H⟩ | ⟨b, e, h1, h2, h3⟩
    · exact absurd hh (H h (hL h hh))
    · rw [e]
      rcases List.mem_cons.mp h2 with rfl | h2
      · rfl
      · have h4 := (List.pairwise_cons.mp hs).1 b h2
        have h5 := h3 h (hL h hh) hh
        rw [Int32.le_iff_toInt_le] at h5
        rw [Int32.lt_iff_toInt_lt] at h4
        omega
theorem gk_len_le : ∀ (N : Nat) (l : List Nat), l.Nodup → (∀ x, x ∈ l → x < N) → l.length ≤ N := by
  intro N
  induction N with
  | zero =>
    intro l _ h
    cases l with
    | nil => exact Nat.le_refl 0
    | cons x l => exact absurd (h x (by simp)) (by omega)
  | succ N ih =>
    intro l hn h
    have h1 := ih (l.erase N) (hn.erase N) (fun x hx => by
      have h2 := (hn.mem_erase_iff).mp hx
      have := h x h2.2
      have := h2.1
      omega)
    rw [List.length_erase] at h1
    split at h1 <;> omega
section
variable {k : Nat}
variable {P W N R G C I : Nat} {RL : List gk_Rec}
variable {f_onlineMask f_rootHeld f_freeNodes f_head f_freeSlot f_queued f_running f_newestNeed f_bound f_boundLeft f_last f_digest : Int32}
variable {a_modeOf a_depthOf a_cursorOf a_notedOf a_passedOf a_seenOf a_groupOf a_groupBit a_groupStart a_leafHeld a_leafIdled a_stateOf a_keyOf a_valueOf a_linkOf a_birthsOf a_reclaimOf a_recordTicket a_recordOwner a_recordKind a_recordTag a_recordHops a_recordNeed a_recordNext a_slotOfTicket a_firstRecord a_firstWaiting a_lastRecord a_ownedCount a_readyCount a_cursor a_holder a_idled a_keys a_values a_kept a_rTicket a_rOwner a_rKind a_rTag a_rHops a_rNeed : Nat → Int32}
theorem gk_yhead_l {post : Int32 → Prop} {L : List Nat} (hN : N ≤ 16) (hL : ∀ n, n < N → (a_stateOf n = 1 ↔ n ∈ L)) (hLN : ∀ n, n ∈ L → n < N) (hs : L.Pairwise (fun a b => a_keys a < a_keys b)) (K : post (gk_hd (-1) L)) :
    ∀ n j best, N - j < n → j ≤ N → gk_BI L a_keys j best → wY_headNow_4 post (nI P) (nI W) (nI N) (nI R) f_running (nI C) (nI I) f_bound f_last f_digest a_modeOf a_depthOf a_cursor a_notedOf a_passedOf a_seenOf a_holder a_idled a_stateOf a_keys a_values a_kept a_birthsOf a_rTicket a_rOwner a_rKind a_rTag a_rHops a_rNeed n best (nI j) := by
  intro n
  induction n with
  | zero => intro j best h; omega
  | succ n ih =>
    intro j best hn hj H
    by_cases e : j = N
    · subst e
      rw [gk_BI_end hLN hs H]
      exact br_t (gk_lerf _) K
    · have hjN : j < N := by omega
      have hin : vp_in (nI j) 16 := vp_in_nI (by omega) (by omega)
      have c : (nI j).toNatClampNeg = j := nI_clamp (by omega)
      refine br_f (nI_ge hjN (by omega)) ⟨hin, ?_⟩
      by_cases z : a_stateOf (nI j).toNatClampNeg = 1
      · refine br_t z ?_
        rw [c] at z
        have hjL := (hL j hjN).mp z
        rcases H with ⟨e1, H⟩ | ⟨b, e1, h1, h2, h3⟩
        · rw [e1]
          exact br_t gk_m1lt (nm_r (nI_1 j) (ih (j + 1) _ (by omega) (by omega) (gk_BI_first H hjL)))
        · rw [e1]
          have cb : (nI b).toNatClampNeg = b := nI_clamp (by omega)
          refine br_f (nI_pos (by omega)) ⟨hin, vp_in_nI (by omega) (by omega), ?_⟩
          by_cases y : a_keys (nI b).toNatClampNeg ≤ a_keys (nI j).toNatClampNeg
          · refine br_t y (nm_r (nI_1 j) ?_)
            rw [c, cb] at y
            exact ih (j + 1) _ (by omega) (by omega) (gk_BI_le h1 h2 h3 y)
          · refine br_f y (nm_r (nI_1 j) ?_)
            rw [c, cb] at y
            exact ih (j + 1) _ (by omega) (by omega) (gk_BI_gt hjL h3 y)
      · refine br_f z (nm_r (nI_1 j) ?_)
        rw [c] at z
        exact ih (j + 1) _ (by omega) (by omega) (gk_BI_keep H (fun h => z ((hL j hjN).mpr h)))
theorem gk_ylink_l {post : Int32 → Prop} {L : List Nat} {f : Nat} (hN : N ≤ 16) (hf : f < N) (hL : ∀ n, n < N → ((a_stateOf n = 1 ∧ a_keys f < a_keys n) ↔ n ∈ L)) (hLN : ∀ n, n ∈ L → n < N) (hs : L.Pairwise (fun a b => a_keys a < a_keys b)) (K : post (gk_hd (-1) L)) :
    ∀ n j best, N - j < n → j ≤ N → gk_BI L a_keys j best → wY_linkNow_44 post (nI f) (nI P) (nI W) (nI N) (nI R) f_running (nI C) (nI I) f_bound f_last f_digest a_modeOf a_depthOf a_cursor a_notedOf a_passedOf a_seenOf a_holder a_idled a_stateOf a_keys a_values a_kept a_birthsOf a_rTicket a_rOwner a_rKind a_rTag a_rHops a_rNeed n best (nI j) := by
  intro n
  have cf : (nI f).toNatClampNeg = f := nI_clamp (by omega)
  have hif : vp_in (nI f) 16 := vp_in_nI (by omega) (by omega)
  induction n with
  | zero => intro j best h; omega
  | succ n ih =>
    intro j best hn hj H
    by_cases e : j = N
    · subst e
      rw [gk_BI_end hLN hs H]
      exact br_t (gk_lerf _) K
    · have hjN : j < N := by omega
      have hin : vp_in (nI j) 16 := vp_in_nI (by omega) (by omega)
      have c : (nI j).toNatClampNeg = j := nI_clamp (by omega)
      refine br_f (nI_ge hjN (by omega)) ⟨hin, ?_⟩
      by_cases z : a_stateOf (nI j).toNatClampNeg = 1
      · refine br_t z ⟨hin, hif, ?_⟩
        rw [c] at z
        by_cases w : a_keys (nI j).toNatClampNeg ≤ a_keys (nI f).toNatClampNeg
        · refine br_t w (nm_r (nI_1 j) ?_)
          rw [c, cf] at w
          exact ih (j + 1) _ (by omega) (by omega) (gk_BI_keep H (fun h => gk_nlt.mpr w ((hL j hjN).mpr h).2))
        · refine br_f w ?_
          rw [c, cf] at w
          have hjL := (hL j hjN).mp ⟨z, gk_nle.mp w⟩
          rcases H with ⟨e1, H⟩ | ⟨b, e1, h1, h2, h3⟩
          · rw [e1]
            exact br_t gk_m1lt (nm_r (nI_1 j) (ih (j + 1) _ (by omega) (by omega) (gk_BI_first H hjL)))
          · rw [e1]
            have cb : (nI b).toNatClampNeg = b := nI_clamp (by omega)
            refine br_f (nI_pos (by omega)) ⟨hin, vp_in_nI (by omega) (by omega), ?_⟩
            by_cases y : a_keys (nI b).toNatClampNeg ≤ a_keys (nI j).toNatClampNeg
            · refine br_t y (nm_r (nI_1 j) ?_)
              rw [c, cb] at y
              exact ih (j + 1) _ (by omega) (by omega) (gk_BI_le h1 h2 h3 y)
            · refine br_f y (nm_r (nI_1 j) ?_)
              rw [c, cb] at y
              exact ih (j + 1) _ (by omega) (by omega) (gk_BI_gt hjL h3 y)
      · refine br_f z (nm_r (nI_1 j) ?_)
        rw [c] at z
        exact ih (j + 1) _ (by omega) (by omega) (gk_BI_keep H (fun h => z ((hL j hjN).mpr h).1))
theorem gk_NL_key {NL : List Nat} (H : (gk_NL N f_freeNodes f_head a_stateOf a_keyOf a_valueOf a_linkOf a_reclaimOf a_keys a_values a_kept NL)) {n : Nat} (hn : n < N) (h : a_stateOf n ≠ 0) : a_keys n = a_keyOf n ∧ a_values n = a_valueOf n := by
  rcases H.2.2.2.2.2.1 n hn with ⟨h0, _⟩ | ⟨_, h1, h2, _⟩
  · exact absurd h0 h
  · exact ⟨h1, h2⟩
theorem gk_NL_mk {NL : List Nat} (H : (gk_NL N f_freeNodes f_head a_stateOf a_keyOf a_valueOf a_linkOf a_reclaimOf a_keys a_values a_kept NL)) {n : Nat} (hn : n ∈ NL) : n < N ∧ a_stateOf n = 1 ∧ a_keys n = a_keyOf n := by
  have h1 := H.2.2.2.1 n hn
  have h2 := (H.2.2.2.2.1 n h1).mpr hn
  exact ⟨h1, h2, (gk_NL_key H h1 (by rw [h2]; decide)).1⟩
theorem gk_pw_keys {L : List Nat} (h : ∀ n, n ∈ L → a_keys n = a_keyOf n) (H : L.Pairwise (fun a b => a_keyOf a < a_keyOf b)) : L.Pairwise (fun a b => a_keys a < a_keys b) := by
  induction L with
  | nil => exact List.Pairwise.nil
  | cons x l ih =>
    rw [List.pairwise_cons] at *
    refine ⟨fun a ha => ?_, ih (fun n hn => h n (by simp [hn])) H.2⟩
    rw [h x (by simp), h a (by simp [ha])]
    exact H.1 a ha
theorem gk_yhead {post : Int32 → Prop} (hN : N ≤ 16) (H : (gk_N N f_freeNodes f_head a_stateOf a_keyOf a_valueOf a_linkOf a_reclaimOf a_keys a_values a_kept)) (K : post f_head) : wpY_headNow post (nI P, nI W, nI N, nI R, f_running, nI C, nI I, f_bound, f_last, f_digest, a_modeOf, a_depthOf, a_cursor, a_notedOf, a_passedOf, a_seenOf, a_holder, a_idled, a_stateOf, a_keys, a_values, a_kept, a_birthsOf, a_rTicket, a_rOwner, a_rKind, a_rTag, a_rHops, a_rNeed) := by
  obtain ⟨NL, H⟩ := H
  refine ⟨N + 1, ?_⟩
  refine gk_yhead_l (L := NL) hN H.2.2.2.2.1 H.2.2.2.1 (gk_pw_keys (fun n hn => (gk_NL_mk H hn).2.2) H.2.2.1) (by rw [← H.1]; exact K) (N + 1) 0 (-1) (by omega) (by omega) gk_BI_0
theorem gk_ylink {post : Int32 → Prop} {f : Nat} (hN : N ≤ 16) (hf : f < N) (H : (gk_N N f_freeNodes f_head a_stateOf a_keyOf a_valueOf a_linkOf a_reclaimOf a_keys a_values a_kept)) (K : post (a_linkOf f)) : wpY_linkNow post (nI P, nI W, nI N, nI R, f_running, nI C, nI I, f_bound, f_last, f_digest, a_modeOf, a_depthOf, a_cursor, a_notedOf, a_passedOf, a_seenOf, a_holder, a_idled, a_stateOf, a_keys, a_values, a_kept, a_birthsOf, a_rTicket, a_rOwner, a_rKind, a_rTag, a_rHops, a_rNeed) (nI f) := by
  obtain ⟨NL, H⟩ := H
  have cf : (nI f).toNatClampNeg = f := nI_clamp (by omega)
  have hif : vp_in (nI f) 16 := vp_in_nI (by omega) (by omega)
  refine br_f (nI_pos (by omega)) (br_f (nI_ge hf (by omega)) ⟨hif, ?_⟩)
  by_cases z : a_stateOf (nI f).toNatClampNeg = 0
  · refine br_t z ?_
    rw [cf] at z
    rcases H.2.2.2.2.2.1 f hf with ⟨_, _, _, h⟩ | ⟨h, _⟩
    · rw [h] at K; exact K
    · rw [z] at h; exact absurd h (by decide)
  · refine br_f z ⟨hif, ?_⟩
    by_cases y : a_stateOf (nI f).toNatClampNeg = 2
    · refine br_t y ⟨hif, ?_⟩
      rw [cf] at y ⊢
      rcases H.2.2.2.2.2.1 f hf with ⟨h, _⟩ | ⟨_, _, _, h⟩
      · rw [y] at h; exact absurd h (by decide)
      · rw [h y]; exact K
    · refine br_f y ⟨N + 1, ?_⟩
      rw [cf] at z y
      have h1 : a_stateOf f = 1 := by
        rcases H.2.2.2.2.2.1 f hf with ⟨h, _⟩ | ⟨h | h, _⟩
        · exact absurd h z
        · exact h
        · exact absurd h y
      have hfL := (H.2.2.2.2.1 f hf).mp h1
      obtain ⟨L1, L2, e⟩ := List.append_of_mem hfL
      have hpw := H.2.2.1
      have hsg := H.2.1
      rw [e] at hpw hsg
      rw [List.pairwise_append, List.pairwise_cons] at hpw
      have hk := (gk_sg_app.mp hsg).2.1
      rw [hk] at K
      have hmem : ∀ n, n ∈ L2 → n ∈ NL := fun n hn => by rw [e]; simp [hn]
      refine gk_ylink_l (L := L2) hN hf ?_ (fun n hn => H.2.2.2.1 n (hmem n hn)) (gk_pw_keys (fun n hn => (gk_NL_mk H (hmem n hn)).2.2) hpw.2.1.2) K (N + 1) 0 (-1) (by omega) (by omega) gk_BI_0
      intro n hn
      constructor
      · rintro ⟨g1, g2⟩
        have g3 := (H.2.2.2.2.1 n hn).mp g1
        rw [(gk_NL_mk H hfL).2.2, (gk_NL_mk H g3).2.2] at g2
        rw [e] at g3
        rcases List.mem_append.mp g3 with g3 | g3
        · have := hpw.2.2 n g3 f (by simp)
          rw [Int32.lt_iff_toInt_lt] at *
          omega
        · rcases List.mem_cons.mp g3 with rfl | g3
          · rw [Int32.lt_iff_toInt_lt] at g2; omega
          · exact g3
      · intro g
        have g3 := hmem n g
        rw [(gk_NL_mk H hfL).2.2, (gk_NL_mk H g3).2.2]
        exact ⟨(gk_NL_mk H g3).2.1, hpw.2.1.1 n g⟩
end
end
section
theorem gk_uc {f : Nat → Int32} {a b : Nat} {x y : Int32} (h : a ≠ b) : upd (upd f a x) b y = upd (upd f b y) a x := by
  funext j
  by_cases e : j = b
  · subst e; rw [pk_us, pk_un h.symm, pk_us]
  · rw [pk_un e]
    by_cases e2 : j = a
    · subst e2; rw [pk_us, pk_us]
    · rw [pk_un e2, pk_un e2, pk_un e]
section
variable {k : Nat}
variable {P W N R G C I : Nat} {RL : List gk_Rec}
variable {f_onlineMask f_rootHeld f_freeNodes f_head f_freeSlot f_queued f_running f_newestNeed f_bound f_boundLeft f_last f_digest : Int32}
variable {a_modeOf a_depthOf a_cursorOf a_notedOf a_passedOf a_seenOf a_groupOf a_groupBit a_groupStart a_leafHeld a_leafIdled a_stateOf a_keyOf a_valueOf a_linkOf a_birthsOf a_reclaimOf a_recordTicket a_recordOwner a_recordKind a_recordTag a_recordHops a_recordNeed a_recordNext a_slotOfTicket a_firstRecord a_firstWaiting a_lastRecord a_ownedCount a_readyCount a_cursor a_holder a_idled a_keys a_values a_kept a_rTicket a_rOwner a_rKind a_rTag a_rHops a_rNeed : Nat → Int32}
/-- the place of a key: L1 below, L2 from there on -/
theorem gk_xbelow_l {post : Int32 → Prop} {key : Int32} {NL : List Nat} (hN : N ≤ 16) (hlen : NL.length ≤ N) (hsg : gk_sg a_linkOf (-1) NL) (hm : ∀ n, n ∈ NL → n < N)
    (K : ∀ L1 L2, NL = L1 ++ L2 → (∀ n, n ∈ L1 → a_keyOf n < key) → (∀ n l, L2 = n :: l → ¬ a_keyOf n < key) → post (gk_la L1)) :
    ∀ (L2 L1 : List Nat) (n : Nat), L2.length < n → NL = L1 ++ L2 → (∀ n, n ∈ L1 → a_keyOf n < key) → wX_lastBelow_10 post key (nI P) (nI N) (nI R) (nI G) f_onlineMask f_rootHeld f_freeNodes f_head f_freeSlot f_queued f_running (nI C) (nI I) f_newestNeed f_bound f_boundLeft f_last f_digest a_modeOf a_depthOf a_cursorOf a_notedOf a_passedOf a_seenOf a_groupOf a_groupBit a_groupStart a_leafHeld a_leafIdled a_stateOf a_keyOf a_valueOf a_linkOf a_birthsOf a_reclaimOf a_recordTicket a_recordOwner a_recordKind a_recordTag a_recordHops a_recordNeed a_recordNext a_slotOfTicket a_firstRecord a_firstWaiting a_lastRecord a_ownedCount a_readyCount n (gk_la L1) (gk_hd (-1) L2) (nI L1.length) := by
  intro L2
  induction L2 with
  | nil =>
    intro L1 n hn e hk
    have fin := K L1 [] e hk (fun n l e => by simp at e)
    have hl : L1.length ≤ N := by rw [e] at hlen; simpa using hlen
    cases n with
    | zero => simp at hn
    | succ n =>
      by_cases z : N ≤ L1.length
      · exact br_t (nI_le z (by omega)) fin
      · exact br_f (nI_ge (by omega) (by omega)) (br_t rfl fin)
  | cons s l ih =>
    intro L1 n hn e hk
    have hl : L1.length + (l.length + 1) ≤ N := by rw [e] at hlen; simpa using hlen
    have hs : s < N := hm s (by rw [e]; simp)
    have hin : vp_in (nI s) 16 := vp_in_nI (by omega) (by omega)
    have c : (nI s).toNatClampNeg = s := nI_clamp (by omega)
    cases n with
    | zero => simp at hn
    | succ n =>
      simp only [List.length_cons] at hn
      refine br_f (nI_ge (by omega) (by omega)) (br_f (gk_ne1 (a := s) (by omega)) ⟨hin, ?_⟩)
      by_cases z : a_keyOf (nI s).toNatClampNeg < key
      · refine br_t z ⟨hin, nm_r (e' := gk_hd (-1) l) ?_ (nm_r (nI_1 _) ?_)⟩
        · show a_linkOf (nI s).toNatClampNeg = _
          rw [c]
          rw [e] at hsg
          exact (gk_sg_app.mp hsg).2.1
        · rw [c] at z
          have h3 := ih (L1 ++ [s]) n (by omega) (by rw [e]; simp) (fun n hn => by
            rcases List.mem_append.mp hn with hn | hn
            · exact hk n hn
            · rw [List.mem_singleton.mp hn]; exact z)
          rw [gk_la_c, List.length_append] at h3
          exact h3
      · refine br_f z ?_
        rw [c] at z
        refine K L1 (s :: l) e hk ?_
        intro n l' e'
        simp at e'
        rw [← e'.1]; exact z
theorem gk_NL_len {NL : List Nat} (H : (gk_NL N f_freeNodes f_head a_stateOf a_keyOf a_valueOf a_linkOf a_reclaimOf a_keys a_values a_kept NL)) : NL.Nodup ∧ NL.length ≤ N := by
  have h1 : NL.Nodup := H.2.2.1.imp (fun {a b} h => fun e => gk_ltne h (by rw [e]))
  exact ⟨h1, gk_len_le N NL h1 H.2.2.2.1⟩
theorem gk_xbelow {post : Int32 → Prop} {key : Int32} {NL : List Nat} (hN : N ≤ 16) (H : (gk_NL N f_freeNodes f_head a_stateOf a_keyOf a_valueOf a_linkOf a_reclaimOf a_keys a_values a_kept NL))
    (K : ∀ L1 L2, NL = L1 ++ L2 → (∀ n, n ∈ L1 → a_keyOf n < key) → (∀ n l, L2 = n :: l → ¬ a_keyOf n < key) → post (gk_la L1)) :
    wpX_lastBelow post (nI P, nI N, nI R, nI G, f_onlineMask, f_rootHeld, f_freeNodes, f_head, f_freeSlot, f_queued, f_running, nI C, nI I, f_newestNeed, f_bound, f_boundLeft, f_last, f_digest, a_modeOf, a_depthOf, a_cursorOf, a_notedOf, a_passedOf, a_seenOf, a_groupOf, a_groupBit, a_groupStart, a_leafHeld, a_leafIdled, a_stateOf, a_keyOf, a_valueOf, a_linkOf, a_birthsOf, a_reclaimOf, a_recordTicket, a_recordOwner, a_recordKind, a_recordTag, a_recordHops, a_recordNeed, a_recordNext, a_slotOfTicket, a_firstRecord, a_firstWaiting, a_lastRecord, a_ownedCount, a_readyCount) key := by
  refine ⟨NL.length + 1, ?_⟩
  rw [H.1]
  exact gk_xbelow_l hN (gk_NL_len H).2 H.2.1 H.2.2.2.1 K NL [] (NL.length + 1) (by omega) rfl (fun n hn => by simp at hn)
theorem gk_xfollow {post : Int32 → Prop} {L1 L2 : List Nat} (hN : N ≤ 16) (H : (gk_NL N f_freeNodes f_head a_stateOf a_keyOf a_valueOf a_linkOf a_reclaimOf a_keys a_values a_kept (L1 ++ L2))) (K : post (gk_hd (-1) L2)) : wpX_follower post (nI P, nI N, nI R, nI G, f_onlineMask, f_rootHeld, f_freeNodes, f_head, f_freeSlot, f_queued, f_running, nI C, nI I, f_newestNeed, f_bound, f_boundLeft, f_last, f_digest, a_modeOf, a_depthOf, a_cursorOf, a_notedOf, a_passedOf, a_seenOf, a_groupOf, a_groupBit, a_groupStart, a_leafHeld, a_leafIdled, a_stateOf, a_keyOf, a_valueOf, a_linkOf, a_birthsOf, a_reclaimOf, a_recordTicket, a_recordOwner, a_recordKind, a_recordTag, a_recordHops, a_recordNeed, a_recordNext, a_slotOfTicket, a_firstRecord, a_firstWaiting, a_lastRecord, a_ownedCount, a_readyCount) (gk_la L1) := by
  rcases gk_snoc L1 with rfl | ⟨l, t, rfl⟩
  · exact br_t rfl (by rw [H.1]; exact K)
  · have ht : t < N := H.2.2.2.1 t (by simp)
    rw [gk_la_c]
    refine br_f (gk_ne1 (by omega)) ⟨vp_in_nI (by omega) (by omega), ?_⟩
    rw [nI_clamp (by omega)]
    have hsg := H.2.1
    rw [gk_sg_app, gk_sg_app] at hsg
    rw [hsg.1.2.1]
    exact K
theorem gk_xsetf {post : SX → Prop} {L1 : List Nat} {e v : Int32} (hL : ∀ n, n ∈ L1 → n < 16) (hn : L1.Nodup) (h1 : f_head = gk_hd e L1) (h2 : gk_sg a_linkOf e L1)
    (K : ∀ head' link', head' = gk_hd v L1 → gk_sg link' v L1 → (∀ n, n ∉ L1 → link' n = a_linkOf n) → (∀ n, n ∈ L1 → link' n = a_linkOf n ∨ link' n = v) → post (nI P, nI N, nI R, nI G, f_onlineMask, f_rootHeld, f_freeNodes, head', f_freeSlot, f_queued, f_running, nI C, nI I, f_newestNeed, f_bound, f_boundLeft, f_last, f_digest, a_modeOf, a_depthOf, a_cursorOf, a_notedOf, a_passedOf, a_seenOf, a_groupOf, a_groupBit, a_groupStart, a_leafHeld, a_leafIdled, a_stateOf, a_keyOf, a_valueOf, link', a_birthsOf, a_reclaimOf, a_recordTicket, a_recordOwner, a_recordKind, a_recordTag, a_recordHops, a_recordNeed, a_recordNext, a_slotOfTicket, a_firstRecord, a_firstWaiting, a_lastRecord, a_ownedCount, a_readyCount)) :
    wpX_setFollower post (nI P, nI N, nI R, nI G, f_onlineMask, f_rootHeld, f_freeNodes, f_head, f_freeSlot, f_queued, f_running, nI C, nI I, f_newestNeed, f_bound, f_boundLeft, f_last, f_digest, a_modeOf, a_depthOf, a_cursorOf, a_notedOf, a_passedOf, a_seenOf, a_groupOf, a_groupBit, a_groupStart, a_leafHeld, a_leafIdled, a_stateOf, a_keyOf, a_valueOf, a_linkOf, a_birthsOf, a_reclaimOf, a_recordTicket, a_recordOwner, a_recordKind, a_recordTag, a_recordHops, a_recordNeed, a_recordNext, a_slotOfTicket, a_firstRecord, a_firstWaiting, a_lastRecord, a_ownedCount, a_readyCount) (gk_la L1) v := by
  rcases gk_snoc L1 with rfl | ⟨l, t, rfl⟩
  · exact br_t rfl (K v a_linkOf rfl trivial (fun _ _ => rfl) (fun n hn => by simp at hn))
  · have ht : t < 16 := hL t (by simp)
    rw [gk_la_c]
    refine br_f (gk_ne1 (by omega)) ⟨vp_in_nI (by omega) (by omega), nm_r (e' := upd a_linkOf t v) (by rw [nI_clamp (by omega)]) ?_⟩
    refine K f_head (upd a_linkOf t v) ?_ ?_ ?_ ?_
    · rw [h1]; cases l <;> rfl
    · refine gk_sg_set ?_ h2
      rw [List.nodup_append] at hn
      intro ht
      exact hn.2.2 t ht t (by simp) rfl
    · intro n hn; exact pk_un (fun z => hn (by rw [z]; simp))
    · intro n hn
      by_cases z : n = t
      · rw [z, pk_us]; exact Or.inr rfl
      · rw [pk_un z]; exact Or.inl rfl
/-! the lowest free node, on both sides -/
theorem gk_xlow_at {post : Int32 → Prop} {m : Int32} {b : Nat} (hb : b < 16) (h1 : bt m b = true) (h2 : ∀ j, j < b → bt m j = false) (K : post (nI b)) : wpX_lowestBit post (nI P, nI N, nI R, nI G, f_onlineMask, f_rootHeld, f_freeNodes, f_head, f_freeSlot, f_queued, f_running, nI C, nI I, f_newestNeed, f_bound, f_boundLeft, f_last, f_digest, a_modeOf, a_depthOf, a_cursorOf, a_notedOf, a_passedOf, a_seenOf, a_groupOf, a_groupBit, a_groupStart, a_leafHeld, a_leafIdled, a_stateOf, a_keyOf, a_valueOf, a_linkOf, a_birthsOf, a_reclaimOf, a_recordTicket, a_recordOwner, a_recordKind, a_recordTag, a_recordHops, a_recordNeed, a_recordNext, a_slotOfTicket, a_firstRecord, a_firstWaiting, a_lastRecord, a_ownedCount, a_readyCount) m := by
  refine gk_xlow ?_ ?_
  · intro b' _ g1 g2
    have : b' = b := by
      rcases Nat.lt_trichotomy b' b with h | h | h
      · rw [h2 b' h] at g1; simp at g1
      · exact h
      · rw [g2 b h] at h1; simp at h1
    rw [this]; exact K
  · intro g
    rw [g b hb] at h1; simp at h1
theorem gk_yfree_l {post : Int32 → Prop} (hN : N ≤ 16) (h1 : ∀ b, b < N → a_stateOf b = 0 → (∀ j, j < b → a_stateOf j ≠ 0) → post (nI b)) (h0 : (∀ j, j < N → a_stateOf j ≠ 0) → post (-1)) :
    ∀ n j, N - j < n → j ≤ N → (∀ i, i < j → a_stateOf i ≠ 0) → wY_lowestFree_2 post (nI P) (nI W) (nI N) (nI R) f_running (nI C) (nI I) f_bound f_last f_digest a_modeOf a_depthOf a_cursor a_notedOf a_passedOf a_seenOf a_holder a_idled a_stateOf a_keys a_values a_kept a_birthsOf a_rTicket a_rOwner a_rKind a_rTag a_rHops a_rNeed n (nI j) := by
  intro n
  induction n with
  | zero => intro j h; omega
  | succ n ih =>
    intro j hn hj hb
    by_cases e : j = N
    · subst e
      exact br_t (gk_lerf _) (h0 hb)
    · have hlt : j < N := by omega
      have c : (nI j).toNatClampNeg = j := nI_clamp (by omega)
      refine br_f (nI_ge hlt (by omega)) ⟨vp_in_nI (by omega) (by omega), ?_⟩
      by_cases z : a_stateOf (nI j).toNatClampNeg = 0
      · refine br_t z ?_
        rw [c] at z
        exact h1 j hlt z hb
      · refine br_f z (nm_r (nI_1 j) ?_)
        rw [c] at z
        refine ih (j + 1) (by omega) (by omega) ?_
        intro i hi
        by_cases ei : i = j
        · rw [ei]; exact z
        · exact hb i (by omega)
theorem gk_yfree_at {post : Int32 → Prop} {b : Nat} (hN : N ≤ 16) (hb : b < N) (h1 : a_stateOf b = 0) (h2 : ∀ j, j < b → a_stateOf j ≠ 0) (K : post (nI b)) : wpY_lowestFree post (nI P, nI W, nI N, nI R, f_running, nI C, nI I, f_bound, f_last, f_digest, a_modeOf, a_depthOf, a_cursor, a_notedOf, a_passedOf, a_seenOf, a_holder, a_idled, a_stateOf, a_keys, a_values, a_kept, a_birthsOf, a_rTicket, a_rOwner, a_rKind, a_rTag, a_rHops, a_rNeed) := by
  refine ⟨N + 1, gk_yfree_l hN ?_ ?_ (N + 1) 0 (by omega) (by omega) (fun i hi => absurd hi (by omega))⟩
  · intro b' _ g1 g2
    have : b' = b := by
      rcases Nat.lt_trichotomy b' b with h | h | h
      · exact absurd g1 (h2 b' h)
      · exact h
      · exact absurd h1 (g2 b h)
    rw [this]; exact K
  · intro g; exact absurd h1 (g b hb)
theorem gk_yfree_no {post : Int32 → Prop} (hN : N ≤ 16) (h : ∀ j, j < N → a_stateOf j ≠ 0) (K : post (-1)) : wpY_lowestFree post (nI P, nI W, nI N, nI R, f_running, nI C, nI I, f_bound, f_last, f_digest, a_modeOf, a_depthOf, a_cursor, a_notedOf, a_passedOf, a_seenOf, a_holder, a_idled, a_stateOf, a_keys, a_values, a_kept, a_birthsOf, a_rTicket, a_rOwner, a_rKind, a_rTag, a_rHops, a_rNeed) :=
  ⟨N + 1, gk_yfree_l hN (fun b hb z _ => absurd z (h b hb)) (fun _ => K) (N + 1) 0 (by omega) (by omega) (fun i hi => absurd hi (by omega))⟩
theorem gk_free_0 (hN : N ≤ 16) (H : (gk_N N f_freeNodes f_head a_stateOf a_keyOf a_valueOf a_linkOf a_reclaimOf a_keys a_values a_kept)) : (f_freeNodes = 0 ↔ ∀ j, j < N → a_stateOf j ≠ 0) := by
  obtain ⟨NL, H⟩ := H
  have h := H.2.2.2.2.2.2.2.2
  rw [gk_z0]
  constructor
  · intro g j hj z
    have := g j (by omega)
    rw [h j (by omega), z] at this
    simp [hj] at this
  · intro g i hi
    rw [h i hi]
    by_cases e : i < N
    · simp [e, g i e]
    · simp [e]
theorem gk_free_at {b : Nat} (hN : N ≤ 16) (H : (gk_N N f_freeNodes f_head a_stateOf a_keyOf a_valueOf a_linkOf a_reclaimOf a_keys a_values a_kept)) (hb : b < N) (h1 : a_stateOf b = 0) (h2 : ∀ j, j < b → a_stateOf j ≠ 0) : bt f_freeNodes b = true ∧ ∀ j, j < b → bt f_freeNodes j = false := by
  obtain ⟨NL, H⟩ := H
  have h := H.2.2.2.2.2.2.2.2
  constructor
  · rw [h b (by omega)]; simp [hb, h1]
  · intro j hj; rw [h j (by omega)]; simp [h2 j hj]
theorem gk_xbear {post : Int32 → SX → Prop} {b : Nat} {key value link : Int32} (hN : N ≤ 16) (H : (gk_N N f_freeNodes f_head a_stateOf a_keyOf a_valueOf a_linkOf a_reclaimOf a_keys a_values a_kept)) (hb : b < N) (h1 : a_stateOf b = 0) (h2 : ∀ j, j < b → a_stateOf j ≠ 0)
    (K : post (nI b) (nI P, nI N, nI R, nI G, f_onlineMask, f_rootHeld, f_freeNodes &&& (((1 : Int32) <<< (nI b &&& 31)) ^^^ (-1)), f_head, f_freeSlot, f_queued, f_running, nI C, nI I, f_newestNeed, f_bound, f_boundLeft, f_last, f_digest, a_modeOf, a_depthOf, a_cursorOf, a_notedOf, a_passedOf, a_seenOf, a_groupOf, a_groupBit, a_groupStart, a_leafHeld, a_leafIdled, upd a_stateOf b 1, upd a_keyOf b key, upd a_valueOf b value, upd a_linkOf b link, upd a_birthsOf b (a_birthsOf b + 1), a_reclaimOf, a_recordTicket, a_recordOwner, a_recordKind, a_recordTag, a_recordHops, a_recordNeed, a_recordNext, a_slotOfTicket, a_firstRecord, a_firstWaiting, a_lastRecord, a_ownedCount, a_readyCount)) :
    wpX_bearNode post (nI P, nI N, nI R, nI G, f_onlineMask, f_rootHeld, f_freeNodes, f_head, f_freeSlot, f_queued, f_running, nI C, nI I, f_newestNeed, f_bound, f_boundLeft, f_last, f_digest, a_modeOf, a_depthOf, a_cursorOf, a_notedOf, a_passedOf, a_seenOf, a_groupOf, a_groupBit, a_groupStart, a_leafHeld, a_leafIdled, a_stateOf, a_keyOf, a_valueOf, a_linkOf, a_birthsOf, a_reclaimOf, a_recordTicket, a_recordOwner, a_recordKind, a_recordTag, a_recordHops, a_recordNeed, a_recordNext, a_slotOfTicket, a_firstRecord, a_firstWaiting, a_lastRecord, a_ownedCount, a_readyCount) key value link := by
  have hin : vp_in (nI b) 16 := vp_in_nI (by omega) (by omega)
  have c : (nI b).toNatClampNeg = b := nI_clamp (by omega)
  obtain ⟨g1, g2⟩ := gk_free_at hN H hb h1 h2
  unfold wpX_bearNode
  refine gk_xlow_at (b := b) (by omega) g1 g2 ?_
  refine br_f (gk_ne1 (by omega)) (nm_e ⟨hin, nm_r (e' := upd a_stateOf b 1) (by rw [c]) ⟨hin, nm_r (e' := upd a_keyOf b key) (by rw [c]) ⟨hin, nm_r (e' := upd a_valueOf b value) (by rw [c]) ⟨hin, nm_r (e' := upd a_linkOf b link) (by rw [c]) ⟨hin, hin, nm_r (e' := upd a_birthsOf b (a_birthsOf b + 1)) (by rw [c]) K⟩⟩⟩⟩⟩)
theorem gk_ylist {post : SY → Prop} {b : Nat} {key value : Int32} (hb : b < 16)
    (K : post (nI P, nI W, nI N, nI R, f_running, nI C, nI I, f_bound, f_last, f_digest, a_modeOf, a_depthOf, a_cursor, a_notedOf, a_passedOf, a_seenOf, a_holder, a_idled, upd a_stateOf b 1, upd a_keys b key, upd a_values b value, a_kept, upd a_birthsOf b (a_birthsOf b + 1), a_rTicket, a_rOwner, a_rKind, a_rTag, a_rHops, a_rNeed)) :
    wpY_list post (nI P, nI W, nI N, nI R, f_running, nI C, nI I, f_bound, f_last, f_digest, a_modeOf, a_depthOf, a_cursor, a_notedOf, a_passedOf, a_seenOf, a_holder, a_idled, a_stateOf, a_keys, a_values, a_kept, a_birthsOf, a_rTicket, a_rOwner, a_rKind, a_rTag, a_rHops, a_rNeed) (nI b) key value := by
  have hin : vp_in (nI b) 16 := vp_in_nI (by omega) (by omega)
  have c : (nI b).toNatClampNeg = b := nI_clamp (by omega)
  exact ⟨hin, nm_r (e' := upd a_stateOf b 1) (by rw [c]) ⟨hin, nm_r (e' := upd a_keys b key) (by rw [c]) ⟨hin, nm_r (e' := upd a_values b value) (by rw [c]) ⟨hin, hin, nm_r (e' := upd a_birthsOf b (a_birthsOf b + 1)) (by rw [c]) K⟩⟩⟩⟩
theorem gk_yunlist {post : SY → Prop} {o : Nat} (hN : N ≤ 16) (ho : o < N) (H : (gk_N N f_freeNodes f_head a_stateOf a_keyOf a_valueOf a_linkOf a_reclaimOf a_keys a_values a_kept))
    (K : post (nI P, nI W, nI N, nI R, f_running, nI C, nI I, f_bound, f_last, f_digest, a_modeOf, a_depthOf, a_cursor, a_notedOf, a_passedOf, a_seenOf, a_holder, a_idled, upd a_stateOf o 2, a_keys, a_values, upd a_kept o (a_linkOf o), a_birthsOf, a_rTicket, a_rOwner, a_rKind, a_rTag, a_rHops, a_rNeed)) : wpY_unlist post (nI P, nI W, nI N, nI R, f_running, nI C, nI I, f_bound, f_last, f_digest, a_modeOf, a_depthOf, a_cursor, a_notedOf, a_passedOf, a_seenOf, a_holder, a_idled, a_stateOf, a_keys, a_values, a_kept, a_birthsOf, a_rTicket, a_rOwner, a_rKind, a_rTag, a_rHops, a_rNeed) (nI o) := by
  have hin : vp_in (nI o) 16 := vp_in_nI (by omega) (by omega)
  have c : (nI o).toNatClampNeg = o := nI_clamp (by omega)
  unfold wpY_unlist
  refine gk_ylink hN ho H ?_
  exact ⟨hin, nm_r (e' := upd a_kept o (a_linkOf o)) (by rw [c]) ⟨hin, nm_r (e' := upd a_stateOf o 2) (by rw [c]) K⟩⟩
/-! a key looked up -/
theorem gk_ylw_l {post : Int32 → Prop} {key : Int32} (hN : N ≤ 16) (h1 : ∀ b, b < N → a_stateOf b = 1 → a_keys b = key → post (nI b)) (h0 : (∀ j, j < N → ¬ (a_stateOf j = 1 ∧ a_keys j = key)) → post (-1)) :
    ∀ n j, N - j < n → j ≤ N → (∀ i, i < j → ¬ (a_stateOf i = 1 ∧ a_keys i = key)) → wY_listedWith_2 post key (nI P) (nI W) (nI N) (nI R) f_running (nI C) (nI I) f_bound f_last f_digest a_modeOf a_depthOf a_cursor a_notedOf a_passedOf a_seenOf a_holder a_idled a_stateOf a_keys a_values a_kept a_birthsOf a_rTicket a_rOwner a_rKind a_rTag a_rHops a_rNeed n (nI j) := by
  intro n
  induction n with
  | zero => intro j h; omega
  | succ n ih =>
    intro j hn hj hb
    by_cases e : j = N
    · subst e
      exact br_t (gk_lerf _) (h0 hb)
    · have hlt : j < N := by omega
      have c : (nI j).toNatClampNeg = j := nI_clamp (by omega)
      have hin : vp_in (nI j) 16 := vp_in_nI (by omega) (by omega)
      have step : ¬ (a_stateOf j = 1 ∧ a_keys j = key) → wY_listedWith_2 post key (nI P) (nI W) (nI N) (nI R) f_running (nI C) (nI I) f_bound f_last f_digest a_modeOf a_depthOf a_cursor a_notedOf a_passedOf a_seenOf a_holder a_idled a_stateOf a_keys a_values a_kept a_birthsOf a_rTicket a_rOwner a_rKind a_rTag a_rHops a_rNeed n (nI (j + 1)) := by
        intro z
        refine ih (j + 1) (by omega) (by omega) ?_
        intro i hi
        by_cases ei : i = j
        · rw [ei]; exact z
        · exact hb i (by omega)
      refine br_f (nI_ge hlt (by omega)) ⟨hin, ?_⟩
      by_cases z : a_stateOf (nI j).toNatClampNeg = 1
      · refine br_t z ⟨hin, ?_⟩
        by_cases y : a_keys (nI j).toNatClampNeg = key
        · refine br_t y ?_
          rw [c] at z y
          exact h1 j hlt z y
        · refine br_f y (nm_r (nI_1 j) ?_)
          rw [c] at y
          exact step (fun h => y h.2)
      · refine br_f z (nm_r (nI_1 j) ?_)
        rw [c] at z
        exact step (fun h => z h.1)
theorem gk_ylw_yes {post : Int32 → Prop} {key : Int32} {L1 L3 : List Nat} {o : Nat} (hN : N ≤ 16) (H : (gk_NL N f_freeNodes f_head a_stateOf a_keyOf a_valueOf a_linkOf a_reclaimOf a_keys a_values a_kept (L1 ++ o :: L3))) (hk : a_keyOf o = key) (K : post (nI o)) : wpY_listedWith post (nI P, nI W, nI N, nI R, f_running, nI C, nI I, f_bound, f_last, f_digest, a_modeOf, a_depthOf, a_cursor, a_notedOf, a_passedOf, a_seenOf, a_holder, a_idled, a_stateOf, a_keys, a_values, a_kept, a_birthsOf, a_rTicket, a_rOwner, a_rKind, a_rTag, a_rHops, a_rNeed) key := by
  have hoL : o ∈ L1 ++ o :: L3 := by simp
  have ho := gk_NL_mk H hoL
  refine ⟨N + 1, gk_ylw_l hN ?_ ?_ (N + 1) 0 (by omega) (by omega) (fun i hi => absurd hi (by omega))⟩
  · intro b hb z y
    have hbL := (H.2.2.2.2.1 b hb).mp z
    have hb3 := (gk_NL_mk H hbL).2.2
    have hpw := H.2.2.1
    rw [List.pairwise_append, List.pairwise_cons] at hpw
    have : b = o := by
      rcases List.mem_append.mp hbL with g | g
      · have := hpw.2.2 b g o (by simp)
        rw [← hb3, y, hk] at this
        exact absurd rfl (gk_ltne this)
      · rcases List.mem_cons.mp g with g | g
        · exact g
        · have := hpw.2.1.1 b g
          rw [← hb3, y, hk] at this
          exact absurd rfl (gk_ltne this)
    rw [this]; exact K
  · intro g
    exact absurd ⟨ho.2.1, by rw [ho.2.2, hk]⟩ (g o ho.1)
theorem gk_ylw_no {post : Int32 → Prop} {key : Int32} {L1 L2 : List Nat} (hN : N ≤ 16) (H : (gk_NL N f_freeNodes f_head a_stateOf a_keyOf a_valueOf a_linkOf a_reclaimOf a_keys a_values a_kept (L1 ++ L2))) (h1 : ∀ n, n ∈ L1 → a_keyOf n < key) (h2 : ∀ n, n ∈ L2 → key < a_keyOf n) (K : post (-1)) : wpY_listedWith post (nI P, nI W, nI N, nI R, f_running, nI C, nI I, f_bound, f_last, f_digest, a_modeOf, a_depthOf, a_cursor, a_notedOf, a_passedOf, a_seenOf, a_holder, a_idled, a_stateOf, a_keys, a_values, a_kept, a_birthsOf, a_rTicket, a_rOwner, a_rKind, a_rTag, a_rHops, a_rNeed) key := by
  refine ⟨N + 1, gk_ylw_l hN ?_ (fun _ => K) (N + 1) 0 (by omega) (by omega) (fun i hi => absurd hi (by omega))⟩
  intro b hb z y
  have hbL := (H.2.2.2.2.1 b hb).mp z
  have hb3 := (gk_NL_mk H hbL).2.2
  rcases List.mem_append.mp hbL with g | g
  · have := h1 b g
    rw [← hb3, y] at this
    exact absurd rfl (gk_ltne this)
  · have := h2 b g
    rw [← hb3, y] at this
    exact absurd rfl (gk_ltne this)
end
end
section
theorem gk_relink {nx : Nat → Int32} {e v : Int32} {L1 : List Nat} (hn : L1.Nodup) (h2 : gk_sg nx e L1) :
    ∃ nx', gk_sg nx' v L1 ∧ (∀ n, n ∉ L1 → nx' n = nx n) ∧ (∀ n, n ∈ L1 → nx' n = nx n ∨ nx' n = v) := by
  rcases gk_snoc L1 with rfl | ⟨l, t, rfl⟩
  · exact ⟨nx, trivial, fun _ _ => rfl, fun n hn => by simp at hn⟩
  · refine ⟨upd nx t v, gk_sg_set ?_ h2, ?_, ?_⟩
    · rw [List.nodup_append] at hn
      intro ht
      exact hn.2.2 t ht t (by simp) rfl
    · intro n hn; exact pk_un (fun z => hn (by rw [z]; simp))
    · intro n hn
      by_cases z : n = t
      · rw [z, pk_us]; exact Or.inr rfl
      · rw [pk_un z]; exact Or.inl rfl
theorem gk_mid {L1 L3 : List Nat} {o : Nat} (h : (L1 ++ o :: L3).Nodup) : o ∉ L1 ∧ o ∉ L3 ∧ (∀ n, n ∈ L1 → n ∉ L3) ∧ (L1 ++ L3).Nodup := by
  rw [List.nodup_append, List.nodup_cons] at h
  obtain ⟨h1, ⟨h2, h3⟩, h4⟩ := h
  refine ⟨fun z => h4 o z o (by simp) rfl, h2, fun n z y => h4 n z n (by simp [y]) rfl, ?_⟩
  rw [List.nodup_append]
  exact ⟨h1, h3, fun a ha b hb => h4 a ha b (by simp [hb])⟩
section
variable {k : Nat}
variable {P W N R G C I : Nat} {RL : List gk_Rec}
variable {f_onlineMask f_rootHeld f_freeNodes f_head f_freeSlot f_queued f_running f_newestNeed f_bound f_boundLeft f_last f_digest : Int32}
variable {a_modeOf a_depthOf a_cursorOf a_notedOf a_passedOf a_seenOf a_groupOf a_groupBit a_groupStart a_leafHeld a_leafIdled a_stateOf a_keyOf a_valueOf a_linkOf a_birthsOf a_reclaimOf a_recordTicket a_recordOwner a_recordKind a_recordTag a_recordHops a_recordNeed a_recordNext a_slotOfTicket a_firstRecord a_firstWaiting a_lastRecord a_ownedCount a_readyCount a_cursor a_holder a_idled a_keys a_values a_kept a_rTicket a_rOwner a_rKind a_rTag a_rHops a_rNeed : Nat → Int32}
theorem gk_N_ins {L1 L2 : List Nat} {b : Nat} {key value head' : Int32} {link' : Nat → Int32} (hN : N ≤ 16) (H : (gk_NL N f_freeNodes f_head a_stateOf a_keyOf a_valueOf a_linkOf a_reclaimOf a_keys a_values a_kept (L1 ++ L2))) (hb : b < N) (h0 : a_stateOf b = 0)
    (hk1 : ∀ n, n ∈ L1 → a_keyOf n < key) (hk2 : ∀ n, n ∈ L2 → key < a_keyOf n)
    (e1 : head' = gk_hd (nI b) L1) (e2 : gk_sg link' (nI b) L1) (e3 : ∀ n, n ∉ L1 → link' n = upd a_linkOf b (gk_hd (-1) L2) n) (e4 : ∀ n, n < N → gk_ix N (link' n)) :
    (gk_N N (f_freeNodes &&& (((1 : Int32) <<< (nI b &&& 31)) ^^^ (-1))) head' (upd a_stateOf b 1) (upd a_keyOf b key) (upd a_valueOf b value) link' a_reclaimOf (upd a_keys b key) (upd a_values b value) a_kept) := by
  obtain ⟨nd, _⟩ := gk_NL_len H
  obtain ⟨h1, h2, h3, h4, h5, h6, h7, h8, h9⟩ := H
  have bL : b ∉ L1 ++ L2 := fun z => by
    have := (h5 b hb).mpr z
    rw [h0] at this
    exact absurd this (by decide)
  have bL1 : b ∉ L1 := fun z => bL (by simp [z])
  have bL2 : b ∉ L2 := fun z => bL (by simp [z])
  have nd' := nd
  rw [List.nodup_append] at nd'
  have hk : ∀ n, n ∈ L1 ++ L2 → upd a_keyOf b key n = a_keyOf n := fun n hn => pk_un (fun z => bL (z ▸ hn))
  refine ⟨L1 ++ b :: L2, ?_, ?_, ?_, ?_, ?_, ?_, e4, ?_, ?_⟩
  · rw [gk_hd_app]; exact e1
  · rw [gk_sg_app]
    refine ⟨e2, by rw [e3 b bL1, pk_us], gk_sg_c ?_ (gk_sg_app.mp h2).2⟩
    intro n hn
    have nb : n ≠ b := fun z => bL2 (z ▸ hn)
    rw [e3 n (fun z => nd'.2.2 n z n hn rfl), pk_un nb]
  · rw [List.pairwise_append] at h3
    rw [List.pairwise_append, List.pairwise_cons]
    refine ⟨gk_pw_keys (fun n hn => hk n (by simp [hn])) h3.1, ⟨?_, gk_pw_keys (fun n hn => hk n (by simp [hn])) h3.2.1⟩, ?_⟩
    · intro n hn
      rw [pk_us, hk n (by simp [hn])]; exact hk2 n hn
    · intro n hn m hm
      rw [hk n (by simp [hn])]
      rcases List.mem_cons.mp hm with rfl | hm
      · rw [pk_us]; exact hk1 n hn
      · rw [hk m (by simp [hm])]; exact h3.2.2 n hn m hm
  · intro n hn
    rcases List.mem_append.mp hn with hn | hn
    · exact h4 n (by simp [hn])
    · rcases List.mem_cons.mp hn with rfl | hn
      · exact hb
      · exact h4 n (by simp [hn])
  · intro n hn
    by_cases z : n = b
    · subst z; rw [pk_us]; simp
    · rw [pk_un z, h5 n hn]
      simp [z]
  · intro n hn
    by_cases z : n = b
    · subst z
      rw [pk_us, pk_us, pk_us, pk_us, pk_us]
      exact Or.inr ⟨Or.inl rfl, rfl, rfl, fun y => absurd y (by decide)⟩
    · rw [pk_un z, pk_un z, pk_un z, pk_un z, pk_un z]
      rcases h6 n hn with ⟨g1, g2, g3, g4⟩ | ⟨g1, g2, g3, g4⟩
      · refine Or.inl ⟨g1, g2, g3, ?_⟩
        rw [e3 n ?_, pk_un z, g4]
        intro hL
        have := (h5 n hn).mpr (by simp [hL])
        rw [g1] at this
        exact absurd this (by decide)
      · refine Or.inr ⟨g1, g2, g3, ?_⟩
        intro y
        rw [g4 y, e3 n ?_, pk_un z]
        intro hL
        have := (h5 n hn).mpr (by simp [hL])
        rw [y] at this
        exact absurd this (by decide)
  · intro n hn y
    by_cases z : n = b
    · subst z; exact h8 n hn (by rw [h0]; decide)
    · rw [pk_un z] at y; exact h8 n hn y
  · intro i hi
    rw [b_and, gk_bn _ hi, gk_b1 (by omega) hi, h9 i hi]
    by_cases z : i = b
    · subst z; rw [pk_us]; simp
    · rw [pk_un z]; simp [z]
theorem gk_N_rem {L1 L3 : List Nat} {o : Nat} {v head' : Int32} {link' : Nat → Int32} (H : (gk_NL N f_freeNodes f_head a_stateOf a_keyOf a_valueOf a_linkOf a_reclaimOf a_keys a_values a_kept (L1 ++ o :: L3)))
    (e1 : head' = gk_hd (gk_hd (-1) L3) L1) (e2 : gk_sg link' (gk_hd (-1) L3) L1) (e3 : ∀ n, n ∉ L1 → link' n = a_linkOf n) (e4 : ∀ n, n < N → gk_ix N (link' n)) :
    (gk_NL N f_freeNodes head' (upd a_stateOf o 2) a_keyOf a_valueOf link' (upd a_reclaimOf o v) a_keys a_values (upd a_kept o (a_linkOf o)) (L1 ++ L3)) := by
  obtain ⟨nd, _⟩ := gk_NL_len H
  obtain ⟨h1, h2, h3, h4, h5, h6, h7, h8, h9⟩ := H
  obtain ⟨o1, o3, dj, nd'⟩ := gk_mid nd
  have oN : o < N := h4 o (by simp)
  refine ⟨?_, ?_, ?_, ?_, ?_, ?_, e4, ?_, ?_⟩
  · rw [gk_hd_app]; exact e1
  · rw [gk_sg_app]
    refine ⟨e2, gk_sg_c ?_ (gk_sg_app.mp h2).2.2⟩
    intro n hn
    exact e3 n (fun z => dj n z hn)
  · rw [List.pairwise_append, List.pairwise_cons] at h3
    rw [List.pairwise_append]
    exact ⟨h3.1, h3.2.1.2, fun a ha b hb => h3.2.2 a ha b (by simp [hb])⟩
  · intro n hn
    rcases List.mem_append.mp hn with hn | hn
    · exact h4 n (by simp [hn])
    · exact h4 n (by simp [hn])
  · intro n hn
    by_cases z : n = o
    · subst z; rw [pk_us]
      constructor
      · intro y; exact absurd y (by decide)
      · intro y; rcases List.mem_append.mp y with y | y
        · exact absurd y o1
        · exact absurd y o3
    · rw [pk_un z, h5 n hn]
      simp [z]
  · intro n hn
    by_cases z : n = o
    · subst z
      have g : a_stateOf n = 1 := (h5 n hn).mpr (by simp)
      rw [pk_us, pk_us]
      rcases h6 n hn with ⟨g1, _⟩ | ⟨g1, g2, g3, g4⟩
      · rw [g] at g1; exact absurd g1 (by decide)
      · exact Or.inr ⟨Or.inr rfl, g2, g3, fun _ => (e3 n o1).symm⟩
    · rw [pk_un z, pk_un z]
      rcases h6 n hn with ⟨g1, g2, g3, g4⟩ | ⟨g1, g2, g3, g4⟩
      · refine Or.inl ⟨g1, g2, g3, ?_⟩
        rw [e3 n ?_, g4]
        intro hL
        have := (h5 n hn).mpr (by simp [hL])
        rw [g1] at this
        exact absurd this (by decide)
      · refine Or.inr ⟨g1, g2, g3, ?_⟩
        intro y
        rw [g4 y, e3 n ?_]
        intro hL
        have := (h5 n hn).mpr (by simp [hL])
        rw [y] at this
        exact absurd this (by decide)
  · intro n hn y
    by_cases z : n = o
    · subst z; rw [pk_us] at y; exact absurd rfl y
    · rw [pk_un z] at y ⊢; exact h8 n hn y
  · intro i hi
    rw [h9 i hi]
    by_cases z : i = o
    · subst z
      have g : a_stateOf i = 1 := (h5 i oN).mpr (by simp)
      rw [pk_us, g]; rfl
    · rw [pk_un z]
/-- a removed node is freed -/
theorem gk_N_free {n : Nat} (hN : N ≤ 16) (hn : n < N) (h2 : a_stateOf n = 2) (H : (gk_N N f_freeNodes f_head a_stateOf a_keyOf a_valueOf a_linkOf a_reclaimOf a_keys a_values a_kept)) :
    (gk_N N (f_freeNodes ||| ((1 : Int32) <<< (nI n &&& 31))) f_head (upd a_stateOf n 0) (upd a_keyOf n 0) (upd a_valueOf n 0) (upd a_linkOf n (-1)) (upd a_reclaimOf n (-1)) a_keys a_values a_kept) := by
  obtain ⟨NL, g1, g2, g3, g4, g5, g6, g7, g8, g9⟩ := H
  have nL : n ∉ NL := fun z => by
    have := (g5 n hn).mpr z
    rw [h2] at this
    exact absurd this (by decide)
  have ne : ∀ m, m ∈ NL → m ≠ n := fun m hm z => nL (z ▸ hm)
  refine ⟨NL, g1, gk_sg_u nL g2, gk_pw_keys (fun m hm => pk_un (ne m hm)) g3, g4, ?_, ?_, ?_, ?_, ?_⟩
  · intro m hm
    by_cases z : m = n
    · subst z; rw [pk_us]
      exact ⟨fun y => absurd y (by decide), fun y => absurd y nL⟩
    · rw [pk_un z]; exact g5 m hm
  · intro m hm
    by_cases z : m = n
    · subst z; rw [pk_us, pk_us, pk_us, pk_us]
      exact Or.inl ⟨rfl, rfl, rfl, rfl⟩
    · rw [pk_un z, pk_un z, pk_un z, pk_un z]; exact g6 m hm
  · intro m hm
    by_cases z : m = n
    · subst z; rw [pk_us]; exact Or.inl rfl
    · rw [pk_un z]; exact g7 m hm
  · intro m hm y
    by_cases z : m = n
    · subst z; rw [pk_us]
    · rw [pk_un z] at y ⊢; exact g8 m hm y
  · intro i hi
    rw [b_or, gk_b1 (by omega) hi, g9 i hi]
    by_cases z : i = n
    · subst z; rw [pk_us]; simp [hn]
    · rw [pk_un z]; simp [z]
/-! removed nodes and their records -/
theorem gk_QN_ins {b : Nat} (h0 : a_stateOf b = 0) (H : (gk_QN N a_stateOf a_reclaimOf RL)) : (gk_QN N (upd a_stateOf b 1) a_reclaimOf RL) := by
  refine ⟨?_, ?_⟩
  · intro r hr hk
    obtain ⟨n, h1, h2, h3, h4⟩ := H.1 r hr hk
    have : n ≠ b := fun z => by rw [z, h0] at h3; exact absurd h3 (by decide)
    exact ⟨n, h1, h2, by rw [pk_un this]; exact h3, h4⟩
  · intro n hn h
    have : n ≠ b := fun z => by rw [z, pk_us] at h; exact absurd h (by decide)
    rw [pk_un this] at h
    exact H.2 n hn h
theorem gk_QN_ret {o : Nat} {t w h d : Int32} (ho : o < N) (h1 : a_stateOf o = 1) (H : (gk_QN N a_stateOf a_reclaimOf RL)) : (gk_QN N (upd a_stateOf o 2) (upd a_reclaimOf o t) (RL ++ [(t, w, 2, nI o, h, d)])) := by
  refine ⟨?_, ?_⟩
  · intro r hr hk
    rcases List.mem_append.mp hr with hr | hr
    · obtain ⟨n, g1, g2, g3, g4⟩ := H.1 r hr hk
      have : n ≠ o := fun z => by rw [z, h1] at g3; exact absurd g3 (by decide)
      exact ⟨n, g1, g2, by rw [pk_un this]; exact g3, by rw [pk_un this]; exact g4⟩
    · rw [List.mem_singleton.mp hr]
      exact ⟨o, ho, rfl, pk_us, pk_us⟩
  · intro n hn h
    by_cases z : n = o
    · subst z
      exact ⟨_, List.mem_append_right _ (List.mem_singleton.mpr rfl), rfl, rfl⟩
    · rw [pk_un z] at h
      obtain ⟨r, g1, g2⟩ := H.2 n hn h
      exact ⟨r, List.mem_append_left _ g1, g2⟩
theorem gk_QN_plain {r : gk_Rec} (h1 : r.2.2.1 = 1) (H : (gk_QN N a_stateOf a_reclaimOf RL)) : (gk_QN N a_stateOf a_reclaimOf (RL ++ [r])) := by
  refine ⟨?_, ?_⟩
  · intro r' hr hk
    rcases List.mem_append.mp hr with hr | hr
    · exact H.1 r' hr hk
    · rw [List.mem_singleton.mp hr, h1] at hk
      exact absurd hk (by decide)
  · intro n hn h
    obtain ⟨r', g1, g2⟩ := H.2 n hn h
    exact ⟨r', List.mem_append_left _ g1, g2⟩
theorem gk_QN_take1 {L1 L2 : List gk_Rec} {r : gk_Rec} (h1 : ¬ r.2.2.1 = 2) (H : (gk_QN N a_stateOf a_reclaimOf (L1 ++ r :: L2))) : (gk_QN N a_stateOf a_reclaimOf (L1 ++ L2)) := by
  refine ⟨?_, ?_⟩
  · intro r' hr hk
    refine H.1 r' ?_ hk
    rcases List.mem_append.mp hr with hr | hr
    · simp [hr]
    · simp [hr]
  · intro n hn h
    obtain ⟨r', g1, g2, g3⟩ := H.2 n hn h
    refine ⟨r', ?_, g2, g3⟩
    rcases List.mem_append.mp g1 with g1 | g1
    · simp [g1]
    · rcases List.mem_cons.mp g1 with g1 | g1
      · rw [g1] at g2; exact absurd g2 h1
      · simp [g1]
theorem gk_QN_free {L1 L2 : List gk_Rec} {r : gk_Rec} {n : Nat} (hN : N ≤ 16) (hn : n < N) (h1 : r.2.2.1 = 2) (h2 : r.2.2.2.1 = nI n) (hr : a_reclaimOf n = r.1) (ht : ∀ x, x ∈ L1 ++ L2 → x.1 ≠ r.1) (H : (gk_QN N a_stateOf a_reclaimOf (L1 ++ r :: L2))) :
    (gk_QN N (upd a_stateOf n 0) (upd a_reclaimOf n (-1)) (L1 ++ L2)) := by
  refine ⟨?_, ?_⟩
  · intro r' hr' hk
    have hm : r' ∈ L1 ++ r :: L2 := by
      rcases List.mem_append.mp hr' with g | g
      · simp [g]
      · simp [g]
    obtain ⟨m, g1, g2, g3, g4⟩ := H.1 r' hm hk
    have : m ≠ n := fun z => by
      rw [z, hr] at g4
      exact ht r' hr' g4.symm
    exact ⟨m, g1, g2, by rw [pk_un this]; exact g3, by rw [pk_un this]; exact g4⟩
  · intro m hm h
    have hne : m ≠ n := fun z => by rw [z, pk_us] at h; exact absurd h (by decide)
    rw [pk_un hne] at h
    obtain ⟨r', g1, g2, g3⟩ := H.2 m hm h
    refine ⟨r', ?_, g2, g3⟩
    rcases List.mem_append.mp g1 with g1 | g1
    · simp [g1]
    · rcases List.mem_cons.mp g1 with g1 | g1
      · rw [g1, h2] at g3
        exact absurd (gk_inj g3 (by omega) (by omega)).symm hne
      · simp [g1]
end
end
section
section
variable {k : Nat}
variable {P W N R G C I : Nat} {RL : List gk_Rec}
variable {f_onlineMask f_rootHeld f_freeNodes f_head f_freeSlot f_queued f_running f_newestNeed f_bound f_boundLeft f_last f_digest : Int32}
variable {a_modeOf a_depthOf a_cursorOf a_notedOf a_passedOf a_seenOf a_groupOf a_groupBit a_groupStart a_leafHeld a_leafIdled a_stateOf a_keyOf a_valueOf a_linkOf a_birthsOf a_reclaimOf a_recordTicket a_recordOwner a_recordKind a_recordTag a_recordHops a_recordNeed a_recordNext a_slotOfTicket a_firstRecord a_firstWaiting a_lastRecord a_ownedCount a_readyCount a_cursor a_holder a_idled a_keys a_values a_kept a_rTicket a_rOwner a_rKind a_rTag a_rHops a_rNeed : Nat → Int32}
theorem gk_yqd_l {post : Int32 → Prop} (hR : R ≤ 24) (K : post (nI (gk_yl (gk_f a_rTicket a_rOwner a_rKind a_rTag a_rHops a_rNeed) R).length)) :
    ∀ n j, R - j < n → j ≤ R → wY_queued_4 post (nI P) (nI W) (nI N) (nI R) f_running (nI C) (nI I) f_bound f_last f_digest a_modeOf a_depthOf a_cursor a_notedOf a_passedOf a_seenOf a_holder a_idled a_stateOf a_keys a_values a_kept a_birthsOf a_rTicket a_rOwner a_rKind a_rTag a_rHops a_rNeed n (nI (gk_yl (gk_f a_rTicket a_rOwner a_rKind a_rTag a_rHops a_rNeed) j).length) (nI j) := by
  intro n
  induction n with
  | zero => intro j h; omega
  | succ n ih =>
    intro j hn hj
    by_cases e : j = R
    · subst e
      exact br_t (gk_lerf _) K
    · have hlt : j < R := by omega
      have c : (nI j).toNatClampNeg = j := nI_clamp (by omega)
      have h2 := ih (j + 1) (by omega) (by omega)
      rw [gk_yl_s, List.length_append] at h2
      refine br_f (nI_ge hlt (by omega)) ⟨vp_in_nI (by omega) (by omega), ?_⟩
      by_cases z : a_rTicket (nI j).toNatClampNeg = 0
      · refine br_t z (nm_r (nI_1 j) ?_)
        rw [c] at z
        rw [gk_f_n z] at h2
        exact h2
      · refine br_f z (nm_r (nI_1 _) (nm_r (nI_1 j) ?_))
        rw [c] at z
        rw [gk_f_s z] at h2
        exact h2
theorem gk_yqd {post : Int32 → Prop} {f_bd : Int32} (hR : R ≤ 24) (H : (gk_QY R a_rTicket a_rOwner a_rKind a_rTag a_rHops a_rNeed RL)) (K : post (nI RL.length)) : wpY_queued post (nI P, nI W, nI N, nI R, f_running, nI C, nI I, f_bd, f_last, f_digest, a_modeOf, a_depthOf, a_cursor, a_notedOf, a_passedOf, a_seenOf, a_holder, a_idled, a_stateOf, a_keys, a_values, a_kept, a_birthsOf, a_rTicket, a_rOwner, a_rKind, a_rTag, a_rHops, a_rNeed) :=
  ⟨R + 1, gk_yqd_l hR (by rw [H.length_eq]; exact K) (R + 1) 0 (by omega) (by omega)⟩
theorem gk_xroom {post : Int32 → Prop} (hR : R ≤ 24) (hl : RL.length ≤ R) (hI : I ≤ 30000) (HS : (gk_QS I f_queued f_bound f_boundLeft RL)) (h1 : RL.length < R ∧ I < 30000 → post 1) (h0 : ¬ (RL.length < R ∧ I < 30000) → post 0) : wpX_hasRoom post (nI P, nI N, nI R, nI G, f_onlineMask, f_rootHeld, f_freeNodes, f_head, f_freeSlot, f_queued, f_running, nI C, nI I, f_newestNeed, f_bound, f_boundLeft, f_last, f_digest, a_modeOf, a_depthOf, a_cursorOf, a_notedOf, a_passedOf, a_seenOf, a_groupOf, a_groupBit, a_groupStart, a_leafHeld, a_leafIdled, a_stateOf, a_keyOf, a_valueOf, a_linkOf, a_birthsOf, a_reclaimOf, a_recordTicket, a_recordOwner, a_recordKind, a_recordTag, a_recordHops, a_recordNeed, a_recordNext, a_slotOfTicket, a_firstRecord, a_firstWaiting, a_lastRecord, a_ownedCount, a_readyCount) := by
  have e := HS.1
  subst e
  by_cases z : R ≤ RL.length
  · exact br_t (nI_le z (by omega)) (h0 (by omega))
  · refine br_f (nI_ge (by omega) (by omega)) ?_
    by_cases y : 30000 ≤ I
    · exact br_t (nI_le (a := 30000) y (by omega)) (h0 (by omega))
    · exact br_f (nI_ge (b := 30000) (by omega) (by omega)) (h1 (by omega))
theorem gk_yroom {post : Int32 → Prop} (hR : R ≤ 24) (hl : RL.length ≤ R) (hI : I ≤ 30000) (HY : (gk_QY R a_rTicket a_rOwner a_rKind a_rTag a_rHops a_rNeed RL)) (h0 : RL.length < R ∧ I < 30000 → post 0) (h1 : ¬ (RL.length < R ∧ I < 30000) → post 1) : wpY_noRoom post (nI P, nI W, nI N, nI R, f_running, nI C, nI I, f_bound, f_last, f_digest, a_modeOf, a_depthOf, a_cursor, a_notedOf, a_passedOf, a_seenOf, a_holder, a_idled, a_stateOf, a_keys, a_values, a_kept, a_birthsOf, a_rTicket, a_rOwner, a_rKind, a_rTag, a_rHops, a_rNeed) := by
  unfold wpY_noRoom
  refine gk_yqd hR HY ?_
  by_cases z : R ≤ RL.length
  · exact br_t (nI_le z (by omega)) (h1 (by omega))
  · refine br_f (nI_ge (by omega) (by omega)) ?_
    by_cases y : I < 30000
    · exact br_t (nI_lt (b := 30000) y (by omega)) (h0 (by omega))
    · exact br_f (nI_nlt (b := 30000) (by omega) (by omega)) (h1 (by omega))
theorem gk_QC_len (H : (gk_QC R I a_recordTicket a_recordOwner a_recordKind a_recordTag a_recordHops a_recordNeed a_recordNext f_freeSlot RL)) : RL.length ≤ R := by obtain ⟨FL, _, _, _, f4, _⟩ := H; omega
/-- a node for a new key -/
theorem gk_ins50 {x key value : Int32} {L1 L2 : List Nat} (H : (gk_ALL k P W N R G a_groupOf a_groupBit a_groupStart C f_onlineMask a_modeOf a_cursorOf a_seenOf a_cursor f_running f_rootHeld a_leafHeld a_leafIdled a_holder a_idled f_freeNodes f_head a_stateOf a_keyOf a_valueOf a_linkOf a_reclaimOf a_keys a_values a_kept I f_newestNeed RL a_recordTicket a_recordOwner a_recordKind a_recordTag a_recordHops a_recordNeed a_recordNext a_slotOfTicket a_firstRecord a_firstWaiting a_lastRecord a_ownedCount a_readyCount f_freeSlot f_queued f_bound f_boundLeft a_rTicket a_rOwner a_rKind a_rTag a_rHops a_rNeed)) (HNL : (gk_NL N f_freeNodes f_head a_stateOf a_keyOf a_valueOf a_linkOf a_reclaimOf a_keys a_values a_kept (L1 ++ L2))) (hk1 : ∀ n, n ∈ L1 → a_keyOf n < key) (hk2 : ∀ n, n ∈ L2 → key < a_keyOf n)
    (hY : ∀ post : Int32 → Prop, post 0 → wpY_check post (nI P, nI W, nI N, nI R, f_running, nI C, nI I, f_bound, f_last, f_digest, a_modeOf, a_depthOf, a_cursor, a_notedOf, a_passedOf, a_seenOf, a_holder, a_idled, a_stateOf, a_keys, a_values, a_kept, a_birthsOf, a_rTicket, a_rOwner, a_rKind, a_rTag, a_rHops, a_rNeed) x) :
    wX_insert_50 (fun r u' => wpY_insert (fun r' v' => r' = r ∧ i_Rel (k + 4) u' v') (nI P, nI W, nI N, nI R, f_running, nI C, nI I, f_bound, f_last, f_digest, a_modeOf, a_depthOf, a_cursor, a_notedOf, a_passedOf, a_seenOf, a_holder, a_idled, a_stateOf, a_keys, a_values, a_kept, a_birthsOf, a_rTicket, a_rOwner, a_rKind, a_rTag, a_rHops, a_rNeed) x key value) key value (gk_la L1) (gk_hd (-1) L2) (nI P) (nI N) (nI R) (nI G) f_onlineMask f_rootHeld f_freeNodes f_head f_freeSlot f_queued f_running (nI C) (nI I) f_newestNeed f_bound f_boundLeft f_last f_digest a_modeOf a_depthOf a_cursorOf a_notedOf a_passedOf a_seenOf a_groupOf a_groupBit a_groupStart a_leafHeld a_leafIdled a_stateOf a_keyOf a_valueOf a_linkOf a_birthsOf a_reclaimOf a_recordTicket a_recordOwner a_recordKind a_recordTag a_recordHops a_recordNeed a_recordNext a_slotOfTicket a_firstRecord a_firstWaiting a_lastRecord a_ownedCount a_readyCount := by
  have H0 := H
  obtain ⟨hk4, hC, hP, hH, hN, qA, qB, qC, qD, qS, qY, qN⟩ := H
  have hN16 := hC.2.2.1.2
  by_cases z : f_freeNodes = 0
  · refine br_t z ?_
    unfold wpY_insert
    exact hY _ (br_t rfl (gk_ylw_no hN16 HNL hk1 hk2 (br_t gk_m1lt (gk_yfree_no hN16 ((gk_free_0 hN16 hN).mp z) (br_f gk_0nle ⟨rfl, gk_in (gk_up4 H0)⟩)))))
  · have hex : ∃ j, j < N ∧ a_stateOf j = 0 := by
      refine Classical.byContradiction fun hno => z ((gk_free_0 hN16 hN).mpr ?_)
      intro j hj e
      exact hno ⟨j, hj, e⟩
    obtain ⟨b, ⟨hb, h1⟩, hmin⟩ := pk_least _ hex
    have h2 : ∀ j, j < b → a_stateOf j ≠ 0 := fun j hj e => hmin j hj ⟨by omega, e⟩
    have nd := (gk_NL_len HNL).1
    have bL1 : b ∉ L1 := fun y => by
      have := (HNL.2.2.2.2.1 b hb).mpr (by simp [y])
      rw [h1] at this
      exact absurd this (by decide)
    refine br_f z (gk_xbear hN16 hN hb h1 h2 ?_)
    refine gk_xsetf (e := gk_hd (-1) L2) (fun n hn => Nat.lt_of_lt_of_le (HNL.2.2.2.1 n (by simp [hn])) hN16) (List.nodup_append.mp nd).1 (by rw [HNL.1, gk_hd_app]) (gk_sg_u bL1 (gk_sg_app.mp HNL.2.1).1) ?_
    intro head' link' e1 e2 e3 e4
    unfold wpY_insert
    refine hY _ (br_t rfl (gk_ylw_no hN16 HNL hk1 hk2 (br_t gk_m1lt (gk_yfree_at hN16 hb h1 h2 (br_t (nI_pos' (by omega)) (gk_ylist (by omega) ⟨rfl, gk_in (RL := RL) ?_⟩))))))
    refine ⟨Nat.le_trans hk4 (Nat.le_add_right k 4), hC, hP, hH, gk_N_ins hN16 HNL hb h1 hk1 hk2 e1 e2 e3 ?_, qA, qB, qC, qD, qS, qY, gk_QN_ins h1 qN⟩
    intro n hn
    have h3 : gk_ix N (upd a_linkOf b (gk_hd (-1) L2) n) := by
      by_cases y : n = b
      · rw [y, pk_us]
        exact gk_hd_ix (fun s hs => HNL.2.2.2.1 s (by simp [hs]))
      · rw [pk_un y]; exact HNL.2.2.2.2.2.2.1 n hn
    by_cases y : n ∈ L1
    · rcases e4 n y with e | e
      · rw [e]; exact h3
      · rw [e]; exact Or.inr ⟨b, hb, rfl⟩
    · rw [e3 n y]; exact h3
/-- all beyond the place of a key have greater keys -/
theorem gk_beyond {L1 L3 : List Nat} {o : Nat} {key : Int32} (HNL : (gk_NL N f_freeNodes f_head a_stateOf a_keyOf a_valueOf a_linkOf a_reclaimOf a_keys a_values a_kept (L1 ++ o :: L3))) (h : ¬ a_keyOf o < key) (hne : ¬ a_keyOf o = key) : ∀ n, n ∈ o :: L3 → key < a_keyOf n := by
  have ho : key < a_keyOf o := by
    rw [Int32.lt_iff_toInt_lt] at *
    rw [← Int32.toInt_inj] at hne
    omega
  have hpw := HNL.2.2.1
  rw [List.pairwise_append, List.pairwise_cons] at hpw
  intro n hn
  rcases List.mem_cons.mp hn with rfl | hn
  · exact ho
  · exact gk_ltt ho (hpw.2.1.1 n hn)
end
theorem i_vc_insert {k : Nat} {u : SX} {v : SY} (I : i_Rel k u v) (hk : k + 4 ≤ 2052) (v1 : Int32) (v2 : Int32) (v3 : Int32) : wpX_insert (fun r u' => wpY_insert (fun r' v' => r' = r ∧ i_Rel (k + 4) u' v') v v1 v2 v3) u v1 v2 v3 := by
  refine gk_el (Pr := fun u v => wpX_insert (fun r u' => wpY_insert (fun r' v' => r' = r ∧ i_Rel (k + 4) u' v') v v1 v2 v3) u v1 v2 v3) ?_ I
  intro P W N R G C I RL f_onlineMask f_rootHeld f_freeNodes f_head f_freeSlot f_queued f_running f_newestNeed f_bound f_boundLeft f_last f_digest a_modeOf a_depthOf a_cursorOf a_notedOf a_passedOf a_seenOf a_groupOf a_groupBit a_groupStart a_leafHeld a_leafIdled a_stateOf a_keyOf a_valueOf a_linkOf a_birthsOf a_reclaimOf a_recordTicket a_recordOwner a_recordKind a_recordTag a_recordHops a_recordNeed a_recordNext a_slotOfTicket a_firstRecord a_firstWaiting a_lastRecord a_ownedCount a_readyCount a_cursor a_holder a_idled a_keys a_values a_kept a_rTicket a_rOwner a_rKind a_rTag a_rHops a_rNeed H
  obtain ⟨r, hX, hY, h0⟩ : gk_CK P a_modeOf (nI P, nI N, nI R, nI G, f_onlineMask, f_rootHeld, f_freeNodes, f_head, f_freeSlot, f_queued, f_running, nI C, nI I, f_newestNeed, f_bound, f_boundLeft, f_last, f_digest, a_modeOf, a_depthOf, a_cursorOf, a_notedOf, a_passedOf, a_seenOf, a_groupOf, a_groupBit, a_groupStart, a_leafHeld, a_leafIdled, a_stateOf, a_keyOf, a_valueOf, a_linkOf, a_birthsOf, a_reclaimOf, a_recordTicket, a_recordOwner, a_recordKind, a_recordTag, a_recordHops, a_recordNeed, a_recordNext, a_slotOfTicket, a_firstRecord, a_firstWaiting, a_lastRecord, a_ownedCount, a_readyCount) (nI P, nI W, nI N, nI R, f_running, nI C, nI I, f_bound, f_last, f_digest, a_modeOf, a_depthOf, a_cursor, a_notedOf, a_passedOf, a_seenOf, a_holder, a_idled, a_stateOf, a_keys, a_values, a_kept, a_birthsOf, a_rTicket, a_rOwner, a_rKind, a_rTag, a_rHops, a_rNeed) v1 := gk_ck H.2.1.1.2 v1
  unfold wpX_insert
  refine hX _ ?_
  by_cases e : r = 0
  · subst e
    have hN16 := H.2.1.2.2.1.2
    obtain ⟨NL, HNL⟩ := H.2.2.2.2.1
    refine br_t rfl (gk_xbelow hN16 HNL ?_)
    intro L1 L2 eL hk1 hk2
    subst eL
    refine gk_xfollow hN16 HNL ?_
    cases L2 with
    | nil => exact br_t rfl (gk_ins50 H HNL hk1 (fun n hn => by simp at hn) hY)
    | cons o L3 =>
      have ho : o < N := HNL.2.2.2.1 o (by simp)
      have c : (nI o).toNatClampNeg = o := nI_clamp (by omega)
      refine br_f (gk_ne1 (a := o) (by omega)) ⟨vp_in_nI (n := o) (by omega) (by omega), ?_⟩
      by_cases z : a_keyOf (nI o).toNatClampNeg = v2
      · refine br_t z ?_
        rw [c] at z
        unfold wpY_insert
        exact hY _ (br_t rfl (gk_ylw_yes hN16 HNL z (br_f (nI_pos (by omega)) ⟨rfl, gk_in (gk_up4 H)⟩)))
      · refine br_f z ?_
        rw [c] at z
        exact gk_ins50 H HNL hk1 (gk_beyond HNL (hk2 o L3 rfl) z) hY
  · refine br_f e ?_
    unfold wpY_insert
    exact hY _ (br_f e ⟨rfl, gk_in (gk_up4 H)⟩)
theorem i_vc_call {k : Nat} {u : SX} {v : SY} (I : i_Rel k u v) (hk : k + 4 ≤ 2052) (v1 : Int32) (v2 : Int32) (v3 : Int32) : wpX_call (fun r u' => wpY_call (fun r' v' => r' = r ∧ i_Rel (k + 4) u' v') v v1 v2 v3) u v1 v2 v3 := by
  refine gk_el (Pr := fun u v => wpX_call (fun r u' => wpY_call (fun r' v' => r' = r ∧ i_Rel (k + 4) u' v') v v1 v2 v3) u v1 v2 v3) ?_ I
  intro P W N R G C I RL f_onlineMask f_rootHeld f_freeNodes f_head f_freeSlot f_queued f_running f_newestNeed f_bound f_boundLeft f_last f_digest a_modeOf a_depthOf a_cursorOf a_notedOf a_passedOf a_seenOf a_groupOf a_groupBit a_groupStart a_leafHeld a_leafIdled a_stateOf a_keyOf a_valueOf a_linkOf a_birthsOf a_reclaimOf a_recordTicket a_recordOwner a_recordKind a_recordTag a_recordHops a_recordNeed a_recordNext a_slotOfTicket a_firstRecord a_firstWaiting a_lastRecord a_ownedCount a_readyCount a_cursor a_holder a_idled a_keys a_values a_kept a_rTicket a_rOwner a_rKind a_rTag a_rHops a_rNeed H
  obtain ⟨r, hX, hY, h0⟩ : gk_CK P a_modeOf (nI P, nI N, nI R, nI G, f_onlineMask, f_rootHeld, f_freeNodes, f_head, f_freeSlot, f_queued, f_running, nI C, nI I, f_newestNeed, f_bound, f_boundLeft, f_last, f_digest, a_modeOf, a_depthOf, a_cursorOf, a_notedOf, a_passedOf, a_seenOf, a_groupOf, a_groupBit, a_groupStart, a_leafHeld, a_leafIdled, a_stateOf, a_keyOf, a_valueOf, a_linkOf, a_birthsOf, a_reclaimOf, a_recordTicket, a_recordOwner, a_recordKind, a_recordTag, a_recordHops, a_recordNeed, a_recordNext, a_slotOfTicket, a_firstRecord, a_firstWaiting, a_lastRecord, a_ownedCount, a_readyCount) (nI P, nI W, nI N, nI R, f_running, nI C, nI I, f_bound, f_last, f_digest, a_modeOf, a_depthOf, a_cursor, a_notedOf, a_passedOf, a_seenOf, a_holder, a_idled, a_stateOf, a_keys, a_values, a_kept, a_birthsOf, a_rTicket, a_rOwner, a_rKind, a_rTag, a_rHops, a_rNeed) v1 := gk_ck H.2.1.1.2 v1
  unfold wpX_call
  refine hX _ ?_
  by_cases e : r = 0
  · obtain ⟨p, hp, rfl, hm⟩ := h0 e
    subst e
    have H0 := H
    obtain ⟨hk4, hC, hP, hH, hN, qA, qB, qC, qD, qS, qY, qN⟩ := H
    have hR := hC.2.2.2.1.2
    refine br_t rfl ?_
    by_cases z : v3 < 0
    · refine br_t z ?_
      unfold wpY_call
      exact hY _ (br_t rfl (br_t z ⟨rfl, gk_in (gk_up4 H0)⟩))
    · refine br_f z ?_
      by_cases y : v3 ≤ 3
      · refine br_t y (gk_xroom hR (gk_QC_len qC) qA.2.2.2.2.2 qS ?_ ?_)
        · intro room
          refine br_f (by decide) ?_
          refine gk_xqueue (by omega) room.2 hp hC.1.2 hR hm (Or.inl rfl) (hP.2.2 p hp) room.1 ⟨qA, qB, qC, qD, qS⟩ ?_
          intro fs qd tk' ow' kd' tg' hp' nd' nx' sot' fr' fw' la' oc' Q
          unfold wpY_call
          refine hY _ (br_t rfl (br_f z (br_t y (gk_yroom hR (gk_QC_len qC) qA.2.2.2.2.2 qY ?_ (fun h => absurd room h)))))
          intro _
          refine br_t rfl (gk_yqueue room.2 hR room.1 qY ?_)
          intro ytk' yow' ykd' ytg' yhp' ynd' QY
          exact ⟨rfl, gk_in ⟨Nat.le_trans hk4 (Nat.le_add_right k 4), hC, hP, hH, hN, Q.1, Q.2.1, Q.2.2.1, Q.2.2.2.1, Q.2.2.2.2, QY, gk_QN_plain rfl qN⟩⟩
        · intro room
          refine br_t rfl ?_
          unfold wpY_call
          refine hY _ (br_t rfl (br_f z (br_t y (gk_yroom hR (gk_QC_len qC) qA.2.2.2.2.2 qY (fun h => absurd h room) ?_))))
          intro _
          exact br_f (by decide) ⟨rfl, gk_in (gk_up4 H0)⟩
      · refine br_f y ?_
        unfold wpY_call
        exact hY _ (br_t rfl (br_f z (br_f y ⟨rfl, gk_in (gk_up4 H0)⟩)))
  · refine br_f e ?_
    unfold wpY_call
    exact hY _ (br_f e ⟨rfl, gk_in (gk_up4 H)⟩)
end
section
section
variable {k : Nat}
variable {P W N R G C I : Nat} {RL : List gk_Rec}
variable {f_onlineMask f_rootHeld f_freeNodes f_head f_freeSlot f_queued f_running f_newestNeed f_bound f_boundLeft f_last f_digest : Int32}
variable {a_modeOf a_depthOf a_cursorOf a_notedOf a_passedOf a_seenOf a_groupOf a_groupBit a_groupStart a_leafHeld a_leafIdled a_stateOf a_keyOf a_valueOf a_linkOf a_birthsOf a_reclaimOf a_recordTicket a_recordOwner a_recordKind a_recordTag a_recordHops a_recordNeed a_recordNext a_slotOfTicket a_firstRecord a_firstWaiting a_lastRecord a_ownedCount a_readyCount a_cursor a_holder a_idled a_keys a_values a_kept a_rTicket a_rOwner a_rKind a_rTag a_rHops a_rNeed : Nat → Int32}
/-- p retires node o: X's walk -/
theorem gk_xretire {post : Int32 → SX → Prop} {p o : Nat} (hC : C ≤ 1000) (hI : I < 30000) (hp : p < P) (hP : P ≤ 8) (hR : R ≤ 24) (hm : a_modeOf p ≠ 0)
    (hsn : a_seenOf p ≤ nI C) (room : RL.length < R) (ho : o < 16) (H : (gk_XQ P C I f_running f_newestNeed a_modeOf RL R a_recordTicket a_recordOwner a_recordKind a_recordTag a_recordHops a_recordNeed a_recordNext a_slotOfTicket a_seenOf a_firstRecord a_firstWaiting a_lastRecord a_ownedCount a_readyCount f_freeSlot f_queued f_bound f_boundLeft))
    (K : ∀ fs qd tk' ow' kd' tg' hp' nd' nx' sot' fr' fw' la' oc', (gk_XQ P C (I + 1) f_running (gk_nn f_running C) a_modeOf (RL ++ [(nI (I + 1), nI p, 2, nI o, 0, gk_nn f_running C)]) R tk' ow' kd' tg' hp' nd' nx' sot' a_seenOf fr' fw' la' oc' a_readyCount fs qd f_bound f_boundLeft) →
      post (nI (I + 1)) (nI P, nI N, nI R, nI G, f_onlineMask, f_rootHeld, f_freeNodes, f_head, fs, qd, f_running, nI C, nI (I + 1), gk_nn f_running C, f_bound, f_boundLeft, f_last, f_digest, a_modeOf, a_depthOf, a_cursorOf, a_notedOf, a_passedOf, a_seenOf, a_groupOf, a_groupBit, a_groupStart, a_leafHeld, a_leafIdled, upd a_stateOf o 2, a_keyOf, a_valueOf, a_linkOf, a_birthsOf, upd a_reclaimOf o (nI (I + 1)), tk', ow', kd', tg', hp', nd', nx', sot', fr', fw', la', oc', a_readyCount)) :
    wpX_retireNode post (nI P, nI N, nI R, nI G, f_onlineMask, f_rootHeld, f_freeNodes, f_head, f_freeSlot, f_queued, f_running, nI C, nI I, f_newestNeed, f_bound, f_boundLeft, f_last, f_digest, a_modeOf, a_depthOf, a_cursorOf, a_notedOf, a_passedOf, a_seenOf, a_groupOf, a_groupBit, a_groupStart, a_leafHeld, a_leafIdled, a_stateOf, a_keyOf, a_valueOf, a_linkOf, a_birthsOf, a_reclaimOf, a_recordTicket, a_recordOwner, a_recordKind, a_recordTag, a_recordHops, a_recordNeed, a_recordNext, a_slotOfTicket, a_firstRecord, a_firstWaiting, a_lastRecord, a_ownedCount, a_readyCount) (nI p) (nI o) := by
  have hin : vp_in (nI o) 16 := vp_in_nI ho (by omega)
  have c : (nI o).toNatClampNeg = o := nI_clamp (by omega)
  refine ⟨hin, nm_r (e' := upd a_stateOf o 2) (by rw [c]) ?_⟩
  refine gk_xqueue hC hI hp hP hR hm (Or.inr rfl) hsn room H ?_
  intro fs qd tk' ow' kd' tg' hp' nd' nx' sot' fr' fw' la' oc' Q
  exact ⟨hin, nm_r (e' := upd a_reclaimOf o (nI (I + 1))) (by rw [c]) (K fs qd tk' ow' kd' tg' hp' nd' nx' sot' fr' fw' la' oc' Q)⟩
end
theorem i_vc_remove {k : Nat} {u : SX} {v : SY} (I : i_Rel k u v) (hk : k + 4 ≤ 2052) (v1 : Int32) (v2 : Int32) : wpX_remove (fun r u' => wpY_remove (fun r' v' => r' = r ∧ i_Rel (k + 4) u' v') v v1 v2) u v1 v2 := by
  refine gk_el (Pr := fun u v => wpX_remove (fun r u' => wpY_remove (fun r' v' => r' = r ∧ i_Rel (k + 4) u' v') v v1 v2) u v1 v2) ?_ I
  intro P W N R G C I RL f_onlineMask f_rootHeld f_freeNodes f_head f_freeSlot f_queued f_running f_newestNeed f_bound f_boundLeft f_last f_digest a_modeOf a_depthOf a_cursorOf a_notedOf a_passedOf a_seenOf a_groupOf a_groupBit a_groupStart a_leafHeld a_leafIdled a_stateOf a_keyOf a_valueOf a_linkOf a_birthsOf a_reclaimOf a_recordTicket a_recordOwner a_recordKind a_recordTag a_recordHops a_recordNeed a_recordNext a_slotOfTicket a_firstRecord a_firstWaiting a_lastRecord a_ownedCount a_readyCount a_cursor a_holder a_idled a_keys a_values a_kept a_rTicket a_rOwner a_rKind a_rTag a_rHops a_rNeed H
  obtain ⟨r, hX, hY, h0⟩ : gk_CK P a_modeOf (nI P, nI N, nI R, nI G, f_onlineMask, f_rootHeld, f_freeNodes, f_head, f_freeSlot, f_queued, f_running, nI C, nI I, f_newestNeed, f_bound, f_boundLeft, f_last, f_digest, a_modeOf, a_depthOf, a_cursorOf, a_notedOf, a_passedOf, a_seenOf, a_groupOf, a_groupBit, a_groupStart, a_leafHeld, a_leafIdled, a_stateOf, a_keyOf, a_valueOf, a_linkOf, a_birthsOf, a_reclaimOf, a_recordTicket, a_recordOwner, a_recordKind, a_recordTag, a_recordHops, a_recordNeed, a_recordNext, a_slotOfTicket, a_firstRecord, a_firstWaiting, a_lastRecord, a_ownedCount, a_readyCount) (nI P, nI W, nI N, nI R, f_running, nI C, nI I, f_bound, f_last, f_digest, a_modeOf, a_depthOf, a_cursor, a_notedOf, a_passedOf, a_seenOf, a_holder, a_idled, a_stateOf, a_keys, a_values, a_kept, a_birthsOf, a_rTicket, a_rOwner, a_rKind, a_rTag, a_rHops, a_rNeed) v1 := gk_ck H.2.1.1.2 v1
  unfold wpX_remove
  refine hX _ ?_
  by_cases e : r = 0
  · obtain ⟨p, hp, rfl, hm⟩ := h0 e
    subst e
    have H0 := H
    obtain ⟨hk4, hC, hP, hH, hN, qA, qB, qC, qD, qS, qY, qN⟩ := H
    have hR := hC.2.2.2.1.2
    have hN16 := hC.2.2.1.2
    obtain ⟨NL, HNL⟩ := hN
    refine br_t rfl (gk_xbelow hN16 HNL ?_)
    intro L1 L2 eL hk1 hk2
    subst eL
    refine gk_xfollow hN16 HNL ?_
    cases L2 with
    | nil =>
      refine br_t rfl ?_
      unfold wpY_remove
      exact hY _ (br_t rfl (gk_ylw_no hN16 HNL hk1 (fun n hn => by simp at hn) (br_f gk_0nle ⟨rfl, gk_in (gk_up4 H0)⟩)))
    | cons o L3 =>
      have ho : o < N := HNL.2.2.2.1 o (by simp)
      have c : (nI o).toNatClampNeg = o := nI_clamp (by omega)
      have hin : vp_in (nI o) 16 := vp_in_nI (by omega) (by omega)
      refine br_f (gk_ne1 (a := o) (by omega)) ⟨hin, ?_⟩
      by_cases z : a_keyOf (nI o).toNatClampNeg = v2
      · refine br_t z (gk_xroom hR (gk_QC_len qC) qA.2.2.2.2.2 qS ?_ ?_)
        · intro room
          rw [c] at z
          have so : a_stateOf o = 1 := (HNL.2.2.2.2.1 o ho).mpr (by simp)
          have nd := (gk_NL_len HNL).1
          have hsg := gk_sg_app.mp HNL.2.1
          have hlk : a_linkOf o = gk_hd (-1) L3 := hsg.2.1
          refine br_f (by decide) ⟨hin, ?_⟩
          refine gk_xsetf (e := gk_hd (-1) (o :: L3)) (fun n hn => Nat.lt_of_lt_of_le (HNL.2.2.2.1 n (by simp [hn])) hN16) (List.nodup_append.mp nd).1 (by rw [HNL.1, gk_hd_app]) hsg.1 ?_
          intro head' link' e1 e2 e3 e4
          change head' = gk_hd (a_linkOf (nI o).toNatClampNeg) L1 at e1
          change gk_sg link' (a_linkOf (nI o).toNatClampNeg) L1 at e2
          change ∀ n, n ∈ L1 → link' n = a_linkOf n ∨ link' n = a_linkOf (nI o).toNatClampNeg at e4
          rw [c, hlk] at e1 e2 e4
          refine gk_xretire (by omega) room.2 hp hC.1.2 hR hm (hP.2.2 p hp) room.1 (by omega) ⟨qA, qB, qC, qD, qS⟩ ?_
          intro fs qd tk' ow' kd' tg' hp' nd' nx' sot' fr' fw' la' oc' Q
          unfold wpY_remove
          refine hY _ (br_t rfl (gk_ylw_yes hN16 HNL z (br_t (nI_pos' (by omega)) (gk_yroom hR (gk_QC_len qC) qA.2.2.2.2.2 qY ?_ (fun h => absurd room h)))))
          intro _
          refine br_t rfl (gk_yunlist hN16 ho ⟨_, HNL⟩ (gk_yqueue room.2 hR room.1 qY ?_))
          intro ytk' yow' ykd' ytg' yhp' ynd' QY
          refine ⟨rfl, gk_in ⟨Nat.le_trans hk4 (Nat.le_add_right k 4), hC, hP, hH, ⟨L1 ++ L3, gk_N_rem HNL e1 e2 e3 ?_⟩, Q.1, Q.2.1, Q.2.2.1, Q.2.2.2.1, Q.2.2.2.2, QY, gk_QN_ret ho so qN⟩⟩
          intro n hn
          by_cases y : n ∈ L1
          · rcases e4 n y with e | e
            · rw [e]; exact HNL.2.2.2.2.2.2.1 n hn
            · rw [e]; exact gk_hd_ix (fun s hs => HNL.2.2.2.1 s (by simp [hs]))
          · rw [e3 n y]; exact HNL.2.2.2.2.2.2.1 n hn
        · intro room
          rw [c] at z
          refine br_t rfl ?_
          unfold wpY_remove
          refine hY _ (br_t rfl (gk_ylw_yes hN16 HNL z (br_t (nI_pos' (by omega)) (gk_yroom hR (gk_QC_len qC) qA.2.2.2.2.2 qY (fun h => absurd h room) ?_))))
          intro _
          exact br_f (by decide) ⟨rfl, gk_in (gk_up4 H0)⟩
      · refine br_f z ?_
        rw [c] at z
        unfold wpY_remove
        exact hY _ (br_t rfl (gk_ylw_no hN16 HNL hk1 (gk_beyond HNL (hk2 o L3 rfl) z) (br_f gk_0nle ⟨rfl, gk_in (gk_up4 H0)⟩)))
  · refine br_f e ?_
    unfold wpY_remove
    exact hY _ (br_f e ⟨rfl, gk_in (gk_up4 H)⟩)
theorem i_vc_replace {k : Nat} {u : SX} {v : SY} (I : i_Rel k u v) (hk : k + 4 ≤ 2052) (v1 : Int32) (v2 : Int32) (v3 : Int32) : wpX_replace (fun r u' => wpY_replace (fun r' v' => r' = r ∧ i_Rel (k + 4) u' v') v v1 v2 v3) u v1 v2 v3 := by
  refine gk_el (Pr := fun u v => wpX_replace (fun r u' => wpY_replace (fun r' v' => r' = r ∧ i_Rel (k + 4) u' v') v v1 v2 v3) u v1 v2 v3) ?_ I
  intro P W N R G C I RL f_onlineMask f_rootHeld f_freeNodes f_head f_freeSlot f_queued f_running f_newestNeed f_bound f_boundLeft f_last f_digest a_modeOf a_depthOf a_cursorOf a_notedOf a_passedOf a_seenOf a_groupOf a_groupBit a_groupStart a_leafHeld a_leafIdled a_stateOf a_keyOf a_valueOf a_linkOf a_birthsOf a_reclaimOf a_recordTicket a_recordOwner a_recordKind a_recordTag a_recordHops a_recordNeed a_recordNext a_slotOfTicket a_firstRecord a_firstWaiting a_lastRecord a_ownedCount a_readyCount a_cursor a_holder a_idled a_keys a_values a_kept a_rTicket a_rOwner a_rKind a_rTag a_rHops a_rNeed H
  obtain ⟨r, hX, hY, h0⟩ : gk_CK P a_modeOf (nI P, nI N, nI R, nI G, f_onlineMask, f_rootHeld, f_freeNodes, f_head, f_freeSlot, f_queued, f_running, nI C, nI I, f_newestNeed, f_bound, f_boundLeft, f_last, f_digest, a_modeOf, a_depthOf, a_cursorOf, a_notedOf, a_passedOf, a_seenOf, a_groupOf, a_groupBit, a_groupStart, a_leafHeld, a_leafIdled, a_stateOf, a_keyOf, a_valueOf, a_linkOf, a_birthsOf, a_reclaimOf, a_recordTicket, a_recordOwner, a_recordKind, a_recordTag, a_recordHops, a_recordNeed, a_recordNext, a_slotOfTicket, a_firstRecord, a_firstWaiting, a_lastRecord, a_ownedCount, a_readyCount) (nI P, nI W, nI N, nI R, f_running, nI C, nI I, f_bound, f_last, f_digest, a_modeOf, a_depthOf, a_cursor, a_notedOf, a_passedOf, a_seenOf, a_holder, a_idled, a_stateOf, a_keys, a_values, a_kept, a_birthsOf, a_rTicket, a_rOwner, a_rKind, a_rTag, a_rHops, a_rNeed) v1 := gk_ck H.2.1.1.2 v1
  unfold wpX_replace
  refine hX _ ?_
  by_cases e : r = 0
  · obtain ⟨p, hp, rfl, hm⟩ := h0 e
    subst e
    have H0 := H
    obtain ⟨hk4, hC, hP, hH, hN, qA, qB, qC, qD, qS, qY, qN⟩ := H
    have hR := hC.2.2.2.1.2
    have hN16 := hC.2.2.1.2
    have hNN := hN
    obtain ⟨NL, HNL⟩ := hN
    refine br_t rfl (gk_xbelow hN16 HNL ?_)
    intro L1 L2 eL hk1 hk2
    subst eL
    refine gk_xfollow hN16 HNL ?_
    cases L2 with
    | nil =>
      refine br_t rfl ?_
      unfold wpY_replace
      exact hY _ (br_t rfl (gk_ylw_no hN16 HNL hk1 (fun n hn => by simp at hn) (br_f gk_0nle ⟨rfl, gk_in (gk_up4 H0)⟩)))
    | cons o L3 =>
      have ho : o < N := HNL.2.2.2.1 o (by simp)
      have c : (nI o).toNatClampNeg = o := nI_clamp (by omega)
      have hin : vp_in (nI o) 16 := vp_in_nI (by omega) (by omega)
      refine br_f (gk_ne1 (a := o) (by omega)) ⟨hin, ?_⟩
      by_cases z : a_keyOf (nI o).toNatClampNeg = v2
      · refine br_t z ?_
        rw [c] at z
        by_cases f0 : f_freeNodes = 0
        · refine br_t f0 ?_
          unfold wpY_replace
          exact hY _ (br_t rfl (gk_ylw_yes hN16 HNL z (br_t (nI_pos' (by omega)) (gk_yfree_no hN16 ((gk_free_0 hN16 hNN).mp f0) (br_f gk_0nle ⟨rfl, gk_in (gk_up4 H0)⟩)))))
        · have hex : ∃ j, j < N ∧ a_stateOf j = 0 := by
            refine Classical.byContradiction fun hno => f0 ((gk_free_0 hN16 hNN).mpr ?_)
            intro j hj e
            exact hno ⟨j, hj, e⟩
          obtain ⟨b, ⟨hb, h1⟩, hmin⟩ := pk_least _ hex
          have h2 : ∀ j, j < b → a_stateOf j ≠ 0 := fun j hj e => hmin j hj ⟨by omega, e⟩
          refine br_f f0 (gk_xroom hR (gk_QC_len qC) qA.2.2.2.2.2 qS ?_ ?_)
          · intro room
            have so : a_stateOf o = 1 := (HNL.2.2.2.2.1 o ho).mpr (by simp)
            have hbo : o ≠ b := fun y => by rw [y, h1] at so; exact absurd so (by decide)
            have nd := (gk_NL_len HNL).1
            obtain ⟨o1, o3, dj, nd'⟩ := gk_mid nd
            have hsg := gk_sg_app.mp HNL.2.1
            have hlk : a_linkOf o = gk_hd (-1) L3 := hsg.2.1
            have bL : b ∉ L1 ++ o :: L3 := fun y => by
              have := (HNL.2.2.2.2.1 b hb).mpr y
              rw [h1] at this
              exact absurd this (by decide)
            have bL1 : b ∉ L1 := fun y => bL (by simp [y])
            refine br_f (by decide) ⟨hin, gk_xbear hN16 hNN hb h1 h2 ?_⟩
            refine gk_xsetf (e := gk_hd (-1) (o :: L3)) (fun n hn => Nat.lt_of_lt_of_le (HNL.2.2.2.1 n (by simp [hn])) hN16) (List.nodup_append.mp nd).1 (by rw [HNL.1, gk_hd_app]) (gk_sg_u bL1 hsg.1) ?_
            intro head' link' e1 e2 e3 e4
            change ∀ n, n ∉ L1 → link' n = upd a_linkOf b (a_linkOf (nI o).toNatClampNeg) n at e3
            change ∀ n, n ∈ L1 → link' n = upd a_linkOf b (a_linkOf (nI o).toNatClampNeg) n ∨ link' n = nI b at e4
            rw [c, hlk] at e3 e4
            refine gk_xretire (by omega) room.2 hp hC.1.2 hR hm (hP.2.2 p hp) room.1 (by omega) ⟨qA, qB, qC, qD, qS⟩ ?_
            intro fs qd tk' ow' kd' tg' hp' nd' nx' sot' fr' fw' la' oc' Q
            unfold wpY_replace
            refine hY _ (br_t rfl (gk_ylw_yes hN16 HNL z (br_t (nI_pos' (by omega)) (gk_yfree_at hN16 hb h1 h2 (br_t (nI_pos' (by omega)) (gk_yroom hR (gk_QC_len qC) qA.2.2.2.2.2 qY ?_ (fun h => absurd room h)))))))
            intro _
            refine br_t rfl (gk_yunlist hN16 ho hNN (gk_ylist (by omega) (gk_yqueue room.2 hR room.1 qY ?_)))
            intro ytk' yow' ykd' ytg' yhp' ynd' QY
            rw [gk_uc hbo]
            have hix : ∀ n, n < N → gk_ix N (a_linkOf n) := HNL.2.2.2.2.2.2.1
            have hix3 : gk_ix N (gk_hd (-1) L3) := gk_hd_ix (fun s hs => HNL.2.2.2.1 s (by simp [hs]))
            obtain ⟨lr, l1, l2, l3⟩ := gk_relink (v := gk_hd (-1) L3) (List.nodup_append.mp nd).1 hsg.1
            have R1 := gk_N_rem (v := nI (I + 1)) (link' := lr) HNL rfl l1 l2 (fun n hn => by
              by_cases y : n ∈ L1
              · rcases l3 n y with e | e
                · rw [e]; exact hix n hn
                · rw [e]; exact hix3
              · rw [l2 n y]; exact hix n hn)
            have hk3 : ∀ n, n ∈ L3 → v2 < a_keyOf n := by
              intro n hn
              have hpw := HNL.2.2.1
              rw [List.pairwise_append, List.pairwise_cons] at hpw
              rw [← z]; exact hpw.2.1.1 n hn
            have R2 := gk_N_ins (b := b) (key := v2) (value := v3) (head' := head') (link' := link') hN16 R1 hb (by rw [pk_un hbo.symm]; exact h1) hk1 hk3 e1 e2 (fun n hn => by
              rw [e3 n hn]
              by_cases y : n = b
              · rw [y, pk_us, pk_us]
              · rw [pk_un y, pk_un y, l2 n hn]) (fun n hn => by
              have h3 : gk_ix N (upd a_linkOf b (gk_hd (-1) L3) n) := by
                by_cases y : n = b
                · rw [y, pk_us]; exact hix3
                · rw [pk_un y]; exact hix n hn
              by_cases y : n ∈ L1
              · rcases e4 n y with e | e
                · rw [e]; exact h3
                · rw [e]; exact Or.inr ⟨b, hb, rfl⟩
              · rw [e3 n y]; exact h3)
            rw [gk_uc hbo] at R2
            refine ⟨rfl, gk_in ⟨Nat.le_trans hk4 (Nat.le_add_right k 4), hC, hP, hH, R2, Q.1, Q.2.1, Q.2.2.1, Q.2.2.2.1, Q.2.2.2.2, QY, gk_QN_ret ho ?_ (gk_QN_ins h1 qN)⟩⟩
            rw [pk_un hbo]; exact so
          · intro room
            refine br_t rfl ?_
            unfold wpY_replace
            refine hY _ (br_t rfl (gk_ylw_yes hN16 HNL z (br_t (nI_pos' (by omega)) (gk_yfree_at hN16 hb h1 h2 (br_t (nI_pos' (by omega)) (gk_yroom hR (gk_QC_len qC) qA.2.2.2.2.2 qY (fun h => absurd h room) ?_))))))
            intro _
            exact br_f (by decide) ⟨rfl, gk_in (gk_up4 H0)⟩
      · refine br_f z ?_
        rw [c] at z
        unfold wpY_replace
        exact hY _ (br_t rfl (gk_ylw_no hN16 HNL hk1 (gk_beyond HNL (hk2 o L3 rfl) z) (br_f gk_0nle ⟨rfl, gk_in (gk_up4 H0)⟩)))
  · refine br_f e ?_
    unfold wpY_replace
    exact hY _ (br_f e ⟨rfl, gk_in (gk_up4 H)⟩)
end
section
theorem gk_uu {f : Nat → Int32} {p : Nat} {x y : Int32} : upd (upd f p x) p y = upd f p y := by
  funext j
  by_cases e : j = p
  · subst e; rw [pk_us, pk_us]
  · rw [pk_un e, pk_un e, pk_un e]
section
variable {k : Nat}
variable {P W N R G C I : Nat} {RL : List gk_Rec}
variable {f_onlineMask f_rootHeld f_freeNodes f_head f_freeSlot f_queued f_running f_newestNeed f_bound f_boundLeft f_last f_digest : Int32}
variable {a_modeOf a_depthOf a_cursorOf a_notedOf a_passedOf a_seenOf a_groupOf a_groupBit a_groupStart a_leafHeld a_leafIdled a_stateOf a_keyOf a_valueOf a_linkOf a_birthsOf a_reclaimOf a_recordTicket a_recordOwner a_recordKind a_recordTag a_recordHops a_recordNeed a_recordNext a_slotOfTicket a_firstRecord a_firstWaiting a_lastRecord a_ownedCount a_readyCount a_cursor a_holder a_idled a_keys a_values a_kept a_rTicket a_rOwner a_rKind a_rTag a_rHops a_rNeed : Nat → Int32}
theorem gk_P_cur {p : Nat} {x : Int32} (hx : gk_ix N x) (H : (gk_P P N C f_onlineMask a_modeOf a_cursorOf a_seenOf a_cursor)) : (gk_P P N C f_onlineMask a_modeOf (upd a_cursorOf p x) a_seenOf (upd a_cursor p x)) := by
  refine ⟨H.1, ?_, H.2.2⟩
  intro q hq
  by_cases e : q = p
  · subst e; rw [pk_us, pk_us]; exact ⟨rfl, hx⟩
  · rw [pk_un e, pk_un e]; exact H.2.1 q hq
theorem gk_P_mode {p : Nat} {m : Int32} (h1 : a_modeOf p ≠ 0) (h2 : m ≠ 0) (H : (gk_P P N C f_onlineMask a_modeOf a_cursorOf a_seenOf a_cursor)) : (gk_P P N C f_onlineMask (upd a_modeOf p m) a_cursorOf a_seenOf a_cursor) := by
  refine ⟨?_, H.2⟩
  intro i hi
  rw [H.1 i hi]
  by_cases e : i = p
  · subst e; rw [pk_us]; simp [h1, h2]
  · rw [pk_un e]
theorem gk_P_seen {p : Nat} (H : (gk_P P N C f_onlineMask a_modeOf a_cursorOf a_seenOf a_cursor)) : (gk_P P N C f_onlineMask a_modeOf a_cursorOf (upd a_seenOf p (nI C)) a_cursor) := by
  refine ⟨H.1, H.2.1, ?_⟩
  intro q hq
  by_cases e : q = p
  · subst e; rw [pk_us]; exact gk_lerf _
  · rw [pk_un e]; exact H.2.2 q hq
theorem gk_QA_mode {p : Nat} {m : Int32} (h2 : m ≠ 0) (H : (gk_QA P C I f_running f_newestNeed a_modeOf RL)) : (gk_QA P C I f_running f_newestNeed (upd a_modeOf p m) RL) := by
  obtain ⟨a1, a2, a3⟩ := H
  refine ⟨a1, ?_, a3⟩
  intro r hr
  obtain ⟨b1, b2, b3, b4, q, b5, b6, b7⟩ := a2 r hr
  refine ⟨b1, b2, b3, b4, q, b5, ?_, b7⟩
  by_cases e : q = p
  · rw [e, pk_us]; exact h2
  · rw [pk_un e]; exact b6
theorem gk_QA_none {p : Nat} (hp : p < P) (hP : P ≤ 8) (h : a_modeOf p = 0) (H : (gk_QA P C I f_running f_newestNeed a_modeOf RL)) : RL.filter (gk_ow p) = [] := by
  rw [List.filter_eq_nil_iff]
  intro r hr z
  obtain ⟨_, _, _, _, q, b5, b6, b7⟩ := H.2.1 r hr
  have := gk_inj (b7.symm.trans (gk_ow_i.mp z)) (by omega) (by omega)
  rw [this] at b6
  exact b6 h
theorem gk_QB_seen {p : Nat} {x : Int32} (h : RL.filter (gk_ow p) = []) (H : (gk_QB P R a_recordTicket a_recordOwner a_recordKind a_recordTag a_recordHops a_recordNeed a_recordNext a_slotOfTicket a_seenOf a_firstRecord a_firstWaiting a_lastRecord a_ownedCount a_readyCount RL)) : (gk_QB P R a_recordTicket a_recordOwner a_recordKind a_recordTag a_recordHops a_recordNeed a_recordNext a_slotOfTicket (upd a_seenOf p x) a_firstRecord a_firstWaiting a_lastRecord a_ownedCount a_readyCount RL) := by
  intro q hq
  obtain ⟨A, B, HL⟩ := H q hq
  by_cases e : q = p
  · subst e
    have h1 := HL.1.1
    rw [h, List.map_eq_nil_iff, List.append_eq_nil_iff] at h1
    obtain ⟨rfl, rfl⟩ := h1
    exact ⟨[], [], HL.1, HL.2.1, HL.2.2.1, fun s hs => by simp at hs, fun s hs => by simp at hs⟩
  · rw [pk_un e]; exact ⟨A, B, HL⟩
theorem gk_H_idle {p : Nat} (hp : p < P) (hC : (gk_C P W N R G a_groupOf a_groupBit a_groupStart)) (hh : ¬ a_holder p = 0) (H : (gk_H P W f_running f_rootHeld a_leafHeld a_leafIdled a_holder a_idled)) :
    (gk_H P W f_running f_rootHeld a_leafHeld (upd a_leafIdled (p / W) (a_leafIdled (p / W) ||| ((1 : Int32) <<< (nI (p % W) &&& 31)))) a_holder (upd a_idled p 1)) := by
  obtain ⟨hg, hb, hW, hm⟩ := gk_grpP hC hp
  refine ⟨H.1, ?_, H.2.2⟩
  intro g hg4 i hi
  have hib : ∀ q, q ≠ p → gk_ib P a_holder (upd a_idled p 1) q = gk_ib P a_holder a_idled q := by
    intro q hq; unfold gk_ib; rw [pk_un hq]
  by_cases e : i < W
  · by_cases eq : g * W + i = p
    · have e1 := (gk_grp (g := g) e).1
      have e2 := (gk_grp (g := g) e).2
      rw [eq] at e1 e2
      rw [eq, e1, e2, pk_us, b_or, gk_b1 (by omega) hi]
      have : gk_ib P a_holder (upd a_idled p 1) p = true := by
        unfold gk_ib; rw [gk_hb_f hp, pk_us, decide_eq_true hh]; rfl
      rw [this]
      simp [e]
    · rw [hib _ eq]
      by_cases eg : g = p / W
      · subst eg
        have : i ≠ p % W := by
          intro z; apply eq; rw [z]; exact gk_pq hW
        rw [pk_us, b_or, gk_b1 hb hi, decide_eq_false this, Bool.or_false]
        exact H.2.1 _ hg4 i hi
      · rw [pk_un eg]; exact H.2.1 _ hg4 i hi
  · rw [decide_eq_false e, Bool.false_and]
    by_cases eg : g = p / W
    · subst eg
      rw [pk_us, b_or, gk_b1 hb hi, H.2.1 _ hg4 i hi]
      have : i ≠ p % W := by omega
      simp [e, this]
    · rw [pk_un eg, H.2.1 _ hg4 i hi]; simp [e]
theorem gk_xreset {post : SX → Prop} {p : Nat} (hp : p < 8) (h : post (nI P, nI N, nI R, nI G, f_onlineMask, f_rootHeld, f_freeNodes, f_head, f_freeSlot, f_queued, f_running, nI C, nI I, f_newestNeed, f_bound, f_boundLeft, f_last, f_digest, upd a_modeOf p 0, upd a_depthOf p 0, upd a_cursorOf p (-1), upd a_notedOf p 0, upd a_passedOf p 0, upd a_seenOf p 0, a_groupOf, a_groupBit, a_groupStart, a_leafHeld, a_leafIdled, a_stateOf, a_keyOf, a_valueOf, a_linkOf, a_birthsOf, a_reclaimOf, a_recordTicket, a_recordOwner, a_recordKind, a_recordTag, a_recordHops, a_recordNeed, a_recordNext, a_slotOfTicket, a_firstRecord, a_firstWaiting, a_lastRecord, a_ownedCount, a_readyCount)) :
    wpX_resetProcessor post (nI P, nI N, nI R, nI G, f_onlineMask, f_rootHeld, f_freeNodes, f_head, f_freeSlot, f_queued, f_running, nI C, nI I, f_newestNeed, f_bound, f_boundLeft, f_last, f_digest, a_modeOf, a_depthOf, a_cursorOf, a_notedOf, a_passedOf, a_seenOf, a_groupOf, a_groupBit, a_groupStart, a_leafHeld, a_leafIdled, a_stateOf, a_keyOf, a_valueOf, a_linkOf, a_birthsOf, a_reclaimOf, a_recordTicket, a_recordOwner, a_recordKind, a_recordTag, a_recordHops, a_recordNeed, a_recordNext, a_slotOfTicket, a_firstRecord, a_firstWaiting, a_lastRecord, a_ownedCount, a_readyCount) (nI p) := by
  have hip : vp_in (nI p) 8 := vp_in_nI hp (by omega)
  have cp : (nI p).toNatClampNeg = p := nI_clamp (by omega)
  exact ⟨hip, nm_r (e' := upd a_modeOf p 0) (by rw [cp]) ⟨hip, nm_r (e' := upd a_depthOf p 0) (by rw [cp]) ⟨hip, nm_r (e' := upd a_cursorOf p (-1)) (by rw [cp]) ⟨hip, nm_r (e' := upd a_notedOf p 0) (by rw [cp]) ⟨hip, nm_r (e' := upd a_passedOf p 0) (by rw [cp]) ⟨hip, nm_r (e' := upd a_seenOf p 0) (by rw [cp]) h⟩⟩⟩⟩⟩⟩
end
theorem i_vc_leave {k : Nat} {u : SX} {v : SY} (I : i_Rel k u v) (hk : k + 4 ≤ 2052) (v1 : Int32) : wpX_leave (fun r u' => wpY_leave (fun r' v' => r' = r ∧ i_Rel (k + 4) u' v') v v1) u v1 := by
  refine gk_el (Pr := fun u v => wpX_leave (fun r u' => wpY_leave (fun r' v' => r' = r ∧ i_Rel (k + 4) u' v') v v1) u v1) ?_ I
  intro P W N R G C I RL f_onlineMask f_rootHeld f_freeNodes f_head f_freeSlot f_queued f_running f_newestNeed f_bound f_boundLeft f_last f_digest a_modeOf a_depthOf a_cursorOf a_notedOf a_passedOf a_seenOf a_groupOf a_groupBit a_groupStart a_leafHeld a_leafIdled a_stateOf a_keyOf a_valueOf a_linkOf a_birthsOf a_reclaimOf a_recordTicket a_recordOwner a_recordKind a_recordTag a_recordHops a_recordNeed a_recordNext a_slotOfTicket a_firstRecord a_firstWaiting a_lastRecord a_ownedCount a_readyCount a_cursor a_holder a_idled a_keys a_values a_kept a_rTicket a_rOwner a_rKind a_rTag a_rHops a_rNeed H
  obtain ⟨r, hX, hY, h0⟩ : gk_CK P a_modeOf (nI P, nI N, nI R, nI G, f_onlineMask, f_rootHeld, f_freeNodes, f_head, f_freeSlot, f_queued, f_running, nI C, nI I, f_newestNeed, f_bound, f_boundLeft, f_last, f_digest, a_modeOf, a_depthOf, a_cursorOf, a_notedOf, a_passedOf, a_seenOf, a_groupOf, a_groupBit, a_groupStart, a_leafHeld, a_leafIdled, a_stateOf, a_keyOf, a_valueOf, a_linkOf, a_birthsOf, a_reclaimOf, a_recordTicket, a_recordOwner, a_recordKind, a_recordTag, a_recordHops, a_recordNeed, a_recordNext, a_slotOfTicket, a_firstRecord, a_firstWaiting, a_lastRecord, a_ownedCount, a_readyCount) (nI P, nI W, nI N, nI R, f_running, nI C, nI I, f_bound, f_last, f_digest, a_modeOf, a_depthOf, a_cursor, a_notedOf, a_passedOf, a_seenOf, a_holder, a_idled, a_stateOf, a_keys, a_values, a_kept, a_birthsOf, a_rTicket, a_rOwner, a_rKind, a_rTag, a_rHops, a_rNeed) v1 := gk_ck H.2.1.1.2 v1
  unfold wpX_leave wpX_checkReader
  refine hX _ ?_
  by_cases e : r = 0
  · obtain ⟨p, hp, rfl, hm⟩ := h0 e
    have hP8 := H.2.1.1.2
    have hin : vp_in (nI p) 8 := vp_in_nI (by omega) (by omega)
    have cp : (nI p).toNatClampNeg = p := nI_clamp (by omega)
    refine br_t e ⟨hin, ?_⟩
    by_cases hd : a_depthOf (nI p).toNatClampNeg = 0
    · refine br_t hd (br_f (by decide) ?_)
      unfold wpY_leave
      exact hY _ (br_t e ⟨hin, br_t hd ⟨rfl, gk_in (gk_up4 H)⟩⟩)
    · refine br_f hd (br_t rfl ⟨hin, hin, nm_r (e' := upd a_depthOf p (a_depthOf p - 1)) (by rw [cp]) ⟨hin, ?_⟩⟩)
      by_cases z : upd a_depthOf p (a_depthOf p - 1) (nI p).toNatClampNeg = 0
      · refine br_t z ⟨hin, nm_r (e' := upd a_cursorOf p (-1)) (by rw [cp]) ⟨hin, ?_⟩⟩
        unfold wpY_leave
        refine hY _ (br_t e ⟨hin, br_f hd ⟨hin, hin, nm_r (e' := upd a_depthOf p (a_depthOf p - 1)) (by rw [cp]) ⟨hin, br_t z ⟨hin, nm_r (e' := upd a_cursor p (-1)) (by rw [cp]) ⟨hin, rfl, gk_in (RL := RL) ?_⟩⟩⟩⟩⟩)
        obtain ⟨hk4, hC, hP, hQ⟩ := H
        exact ⟨Nat.le_trans hk4 (Nat.le_add_right k 4), hC, gk_P_cur (Or.inl rfl) hP, hQ⟩
      · refine br_f z ⟨hin, ?_⟩
        unfold wpY_leave
        exact hY _ (br_t e ⟨hin, br_f hd ⟨hin, hin, nm_r (e' := upd a_depthOf p (a_depthOf p - 1)) (by rw [cp]) ⟨hin, br_f z ⟨hin, rfl, gk_in (gk_up4 H)⟩⟩⟩⟩)
  · refine br_f e (br_f e ?_)
    unfold wpY_leave
    exact hY _ (br_f e ⟨rfl, gk_in (gk_up4 H)⟩)
theorem i_vc_first {k : Nat} {u : SX} {v : SY} (I : i_Rel k u v) (hk : k + 4 ≤ 2052) (v1 : Int32) : wpX_first (fun r u' => wpY_first (fun r' v' => r' = r ∧ i_Rel (k + 4) u' v') v v1) u v1 := by
  refine gk_el (Pr := fun u v => wpX_first (fun r u' => wpY_first (fun r' v' => r' = r ∧ i_Rel (k + 4) u' v') v v1) u v1) ?_ I
  intro P W N R G C I RL f_onlineMask f_rootHeld f_freeNodes f_head f_freeSlot f_queued f_running f_newestNeed f_bound f_boundLeft f_last f_digest a_modeOf a_depthOf a_cursorOf a_notedOf a_passedOf a_seenOf a_groupOf a_groupBit a_groupStart a_leafHeld a_leafIdled a_stateOf a_keyOf a_valueOf a_linkOf a_birthsOf a_reclaimOf a_recordTicket a_recordOwner a_recordKind a_recordTag a_recordHops a_recordNeed a_recordNext a_slotOfTicket a_firstRecord a_firstWaiting a_lastRecord a_ownedCount a_readyCount a_cursor a_holder a_idled a_keys a_values a_kept a_rTicket a_rOwner a_rKind a_rTag a_rHops a_rNeed H
  obtain ⟨r, hX, hY, h0⟩ : gk_CK P a_modeOf (nI P, nI N, nI R, nI G, f_onlineMask, f_rootHeld, f_freeNodes, f_head, f_freeSlot, f_queued, f_running, nI C, nI I, f_newestNeed, f_bound, f_boundLeft, f_last, f_digest, a_modeOf, a_depthOf, a_cursorOf, a_notedOf, a_passedOf, a_seenOf, a_groupOf, a_groupBit, a_groupStart, a_leafHeld, a_leafIdled, a_stateOf, a_keyOf, a_valueOf, a_linkOf, a_birthsOf, a_reclaimOf, a_recordTicket, a_recordOwner, a_recordKind, a_recordTag, a_recordHops, a_recordNeed, a_recordNext, a_slotOfTicket, a_firstRecord, a_firstWaiting, a_lastRecord, a_ownedCount, a_readyCount) (nI P, nI W, nI N, nI R, f_running, nI C, nI I, f_bound, f_last, f_digest, a_modeOf, a_depthOf, a_cursor, a_notedOf, a_passedOf, a_seenOf, a_holder, a_idled, a_stateOf, a_keys, a_values, a_kept, a_birthsOf, a_rTicket, a_rOwner, a_rKind, a_rTag, a_rHops, a_rNeed) v1 := gk_ck H.2.1.1.2 v1
  unfold wpX_first wpX_checkReader
  refine hX _ ?_
  by_cases e : r = 0
  · obtain ⟨p, hp, rfl, hm⟩ := h0 e
    have hP8 := H.2.1.1.2
    have hin : vp_in (nI p) 8 := vp_in_nI (by omega) (by omega)
    have cp : (nI p).toNatClampNeg = p := nI_clamp (by omega)
    refine br_t e ⟨hin, ?_⟩
    by_cases hd : a_depthOf (nI p).toNatClampNeg = 0
    · refine br_t hd (br_f (by decide) ?_)
      unfold wpY_first
      exact hY _ (br_t e ⟨hin, br_t hd ⟨rfl, gk_in (gk_up4 H)⟩⟩)
    · refine br_f hd (br_t rfl ⟨hin, nm_r (e' := upd a_cursorOf p f_head) (by rw [cp]) ?_⟩)
      unfold wpY_first
      refine hY _ (br_t e ⟨hin, br_f hd (gk_yhead H.2.1.2.2.1.2 H.2.2.2.2.1 ⟨hin, nm_r (e' := upd a_cursor p f_head) (by rw [cp]) ⟨hin, by rw [cp, pk_us], gk_in (RL := RL) ?_⟩⟩)⟩)
      obtain ⟨hk4, hC, hP, hH, hN, hQ⟩ := H
      refine ⟨Nat.le_trans hk4 (Nat.le_add_right k 4), hC, gk_P_cur ?_ hP, hH, hN, hQ⟩
      obtain ⟨NL, HNL⟩ := hN
      rw [HNL.1]
      exact gk_hd_ix HNL.2.2.2.1
  · refine br_f e (br_f e ?_)
    unfold wpY_first
    exact hY _ (br_f e ⟨rfl, gk_in (gk_up4 H)⟩)
theorem i_vc_next {k : Nat} {u : SX} {v : SY} (I : i_Rel k u v) (hk : k + 4 ≤ 2052) (v1 : Int32) : wpX_next (fun r u' => wpY_next (fun r' v' => r' = r ∧ i_Rel (k + 4) u' v') v v1) u v1 := by
  refine gk_el (Pr := fun u v => wpX_next (fun r u' => wpY_next (fun r' v' => r' = r ∧ i_Rel (k + 4) u' v') v v1) u v1) ?_ I
  intro P W N R G C I RL f_onlineMask f_rootHeld f_freeNodes f_head f_freeSlot f_queued f_running f_newestNeed f_bound f_boundLeft f_last f_digest a_modeOf a_depthOf a_cursorOf a_notedOf a_passedOf a_seenOf a_groupOf a_groupBit a_groupStart a_leafHeld a_leafIdled a_stateOf a_keyOf a_valueOf a_linkOf a_birthsOf a_reclaimOf a_recordTicket a_recordOwner a_recordKind a_recordTag a_recordHops a_recordNeed a_recordNext a_slotOfTicket a_firstRecord a_firstWaiting a_lastRecord a_ownedCount a_readyCount a_cursor a_holder a_idled a_keys a_values a_kept a_rTicket a_rOwner a_rKind a_rTag a_rHops a_rNeed H
  obtain ⟨r, hX, hY, h0⟩ : gk_CK P a_modeOf (nI P, nI N, nI R, nI G, f_onlineMask, f_rootHeld, f_freeNodes, f_head, f_freeSlot, f_queued, f_running, nI C, nI I, f_newestNeed, f_bound, f_boundLeft, f_last, f_digest, a_modeOf, a_depthOf, a_cursorOf, a_notedOf, a_passedOf, a_seenOf, a_groupOf, a_groupBit, a_groupStart, a_leafHeld, a_leafIdled, a_stateOf, a_keyOf, a_valueOf, a_linkOf, a_birthsOf, a_reclaimOf, a_recordTicket, a_recordOwner, a_recordKind, a_recordTag, a_recordHops, a_recordNeed, a_recordNext, a_slotOfTicket, a_firstRecord, a_firstWaiting, a_lastRecord, a_ownedCount, a_readyCount) (nI P, nI W, nI N, nI R, f_running, nI C, nI I, f_bound, f_last, f_digest, a_modeOf, a_depthOf, a_cursor, a_notedOf, a_passedOf, a_seenOf, a_holder, a_idled, a_stateOf, a_keys, a_values, a_kept, a_birthsOf, a_rTicket, a_rOwner, a_rKind, a_rTag, a_rHops, a_rNeed) v1 := gk_ck H.2.1.1.2 v1
  unfold wpX_next wpX_checkReader
  refine hX _ ?_
  by_cases e : r = 0
  · obtain ⟨p, hp, rfl, hm⟩ := h0 e
    have hP8 := H.2.1.1.2
    have hin : vp_in (nI p) 8 := vp_in_nI (by omega) (by omega)
    have cp : (nI p).toNatClampNeg = p := nI_clamp (by omega)
    refine br_t e ⟨hin, ?_⟩
    by_cases hd : a_depthOf (nI p).toNatClampNeg = 0
    · refine br_t hd (br_f (by decide) ?_)
      unfold wpY_next
      exact hY _ (br_t e ⟨hin, br_t hd ⟨rfl, gk_in (gk_up4 H)⟩⟩)
    · have H0 := H
      obtain ⟨hk4, hC, hP, hH, hN, hQ⟩ := H
      obtain ⟨c1, c2⟩ := hP.2.1 p hp
      refine br_f hd (br_t rfl ⟨hin, nm_r (e' := a_cursorOf p) (by rw [cp]) ?_⟩)
      rcases c2 with c2 | ⟨j, hj, c2⟩
      · refine br_t c2 ?_
        unfold wpY_next
        exact hY _ (br_t e ⟨hin, br_f hd ⟨hin, br_t (by rw [cp, c1]; exact c2) ⟨rfl, gk_in (gk_up4 H0)⟩⟩⟩)
      · have hN16 := hC.2.2.1.2
        have hne : ¬ a_cursorOf p = -1 := by rw [c2]; exact gk_ne1 (by omega)
        have cj : (nI j).toNatClampNeg = j := nI_clamp (by omega)
        refine br_f hne ⟨by rw [c2]; exact vp_in_nI (by omega) (by omega), hin, nm_r (e' := upd a_cursorOf p (a_linkOf j)) (by rw [cp, c2, cj]) ⟨hin, ?_⟩⟩
        unfold wpY_next
        refine hY _ (br_t e ⟨hin, br_f hd ⟨hin, br_f (by rw [cp, c1]; exact hne) ⟨hin, ?_⟩⟩⟩)
        rw [cp, c1, c2]
        refine gk_ylink hN16 hj hN ⟨hin, nm_r (e' := upd a_cursor p (a_linkOf j)) rfl ⟨hin, by rw [pk_us, pk_us], gk_in (RL := RL) ?_⟩⟩
        refine ⟨Nat.le_trans hk4 (Nat.le_add_right k 4), hC, gk_P_cur ?_ hP, hH, hN, hQ⟩
        obtain ⟨NL, HNL⟩ := hN
        exact HNL.2.2.2.2.2.2.1 j hj
  · refine br_f e (br_f e ?_)
    unfold wpY_next
    exact hY _ (br_f e ⟨rfl, gk_in (gk_up4 H)⟩)
theorem i_vc_wake {k : Nat} {u : SX} {v : SY} (I : i_Rel k u v) (hk : k + 4 ≤ 2052) (v1 : Int32) : wpX_wake (fun r u' => wpY_wake (fun r' v' => r' = r ∧ i_Rel (k + 4) u' v') v v1) u v1 := by
  refine gk_el (Pr := fun u v => wpX_wake (fun r u' => wpY_wake (fun r' v' => r' = r ∧ i_Rel (k + 4) u' v') v v1) u v1) ?_ I
  intro P W N R G C I RL f_onlineMask f_rootHeld f_freeNodes f_head f_freeSlot f_queued f_running f_newestNeed f_bound f_boundLeft f_last f_digest a_modeOf a_depthOf a_cursorOf a_notedOf a_passedOf a_seenOf a_groupOf a_groupBit a_groupStart a_leafHeld a_leafIdled a_stateOf a_keyOf a_valueOf a_linkOf a_birthsOf a_reclaimOf a_recordTicket a_recordOwner a_recordKind a_recordTag a_recordHops a_recordNeed a_recordNext a_slotOfTicket a_firstRecord a_firstWaiting a_lastRecord a_ownedCount a_readyCount a_cursor a_holder a_idled a_keys a_values a_kept a_rTicket a_rOwner a_rKind a_rTag a_rHops a_rNeed H
  have hP8 := H.2.1.1.2
  unfold wpX_wake
  rcases gk_isp hP8 v1 with ⟨p, hp, rfl⟩ | hx
  · have hin : vp_in (nI p) 8 := vp_in_nI (by omega) (by omega)
    have cp : (nI p).toNatClampNeg = p := nI_clamp (by omega)
    have y1 : ¬ nI p < 0 := nI_pos (by omega)
    have y2 : nI p < nI P := nI_lt hp (by omega)
    refine gk_exX hP8 hp (br_f (by decide) ⟨hin, ?_⟩)
    by_cases z : a_modeOf (nI p).toNatClampNeg = 0
    · exact br_t z (br_f y1 (br_t y2 ⟨hin, br_t z ⟨rfl, gk_in (gk_up4 H)⟩⟩))
    · refine br_f z ⟨hin, ?_⟩
      by_cases y : a_modeOf (nI p).toNatClampNeg = 1
      · exact br_t y (br_f y1 (br_t y2 ⟨hin, br_f z ⟨hin, br_t y ⟨rfl, gk_in (gk_up4 H)⟩⟩⟩))
      · refine br_f y ⟨hin, nm_r (e' := upd a_modeOf p 1) (by rw [cp]) ?_⟩
        refine br_f y1 (br_t y2 ⟨hin, br_f z ⟨hin, br_f y ⟨hin, nm_r (e' := upd a_modeOf p 1) (by rw [cp]) ⟨rfl, gk_in (RL := RL) ?_⟩⟩⟩⟩)
        rw [cp] at z
        obtain ⟨hk4, hC, hP, hH, hN, qA, hQ⟩ := H
        exact ⟨Nat.le_trans hk4 (Nat.le_add_right k 4), hC, gk_P_mode z (by decide) hP, hH, hN, gk_QA_mode (by decide) qA, hQ⟩
  · refine gk_nX hP8 hx (br_t rfl ?_)
    exact gk_nY hP8 hx ⟨rfl, gk_in (gk_up4 H)⟩ ⟨rfl, gk_in (gk_up4 H)⟩
theorem i_vc_idle {k : Nat} {u : SX} {v : SY} (I : i_Rel k u v) (hk : k + 4 ≤ 2052) (v1 : Int32) : wpX_idle (fun r u' => wpY_idle (fun r' v' => r' = r ∧ i_Rel (k + 4) u' v') v v1) u v1 := by
  refine gk_el (Pr := fun u v => wpX_idle (fun r u' => wpY_idle (fun r' v' => r' = r ∧ i_Rel (k + 4) u' v') v v1) u v1) ?_ I
  intro P W N R G C I RL f_onlineMask f_rootHeld f_freeNodes f_head f_freeSlot f_queued f_running f_newestNeed f_bound f_boundLeft f_last f_digest a_modeOf a_depthOf a_cursorOf a_notedOf a_passedOf a_seenOf a_groupOf a_groupBit a_groupStart a_leafHeld a_leafIdled a_stateOf a_keyOf a_valueOf a_linkOf a_birthsOf a_reclaimOf a_recordTicket a_recordOwner a_recordKind a_recordTag a_recordHops a_recordNeed a_recordNext a_slotOfTicket a_firstRecord a_firstWaiting a_lastRecord a_ownedCount a_readyCount a_cursor a_holder a_idled a_keys a_values a_kept a_rTicket a_rOwner a_rKind a_rTag a_rHops a_rNeed H
  obtain ⟨r, hX, hY, h0⟩ : gk_CK P a_modeOf (nI P, nI N, nI R, nI G, f_onlineMask, f_rootHeld, f_freeNodes, f_head, f_freeSlot, f_queued, f_running, nI C, nI I, f_newestNeed, f_bound, f_boundLeft, f_last, f_digest, a_modeOf, a_depthOf, a_cursorOf, a_notedOf, a_passedOf, a_seenOf, a_groupOf, a_groupBit, a_groupStart, a_leafHeld, a_leafIdled, a_stateOf, a_keyOf, a_valueOf, a_linkOf, a_birthsOf, a_reclaimOf, a_recordTicket, a_recordOwner, a_recordKind, a_recordTag, a_recordHops, a_recordNeed, a_recordNext, a_slotOfTicket, a_firstRecord, a_firstWaiting, a_lastRecord, a_ownedCount, a_readyCount) (nI P, nI W, nI N, nI R, f_running, nI C, nI I, f_bound, f_last, f_digest, a_modeOf, a_depthOf, a_cursor, a_notedOf, a_passedOf, a_seenOf, a_holder, a_idled, a_stateOf, a_keys, a_values, a_kept, a_birthsOf, a_rTicket, a_rOwner, a_rKind, a_rTag, a_rHops, a_rNeed) v1 := gk_ck H.2.1.1.2 v1
  unfold wpX_idle
  refine hX _ ?_
  by_cases e : r = 0
  · obtain ⟨p, hp, rfl, hm⟩ := h0 e
    have hP8 := H.2.1.1.2
    have hin : vp_in (nI p) 8 := vp_in_nI (by omega) (by omega)
    have cp : (nI p).toNatClampNeg = p := nI_clamp (by omega)
    refine br_t e ⟨hin, ?_⟩
    by_cases hd : a_depthOf (nI p).toNatClampNeg ≤ 0
    · have H0 := H
      obtain ⟨hk4, hC, hP, hH, hN, qA, hQ⟩ := H
      refine br_t hd ⟨hin, nm_r (e' := upd a_modeOf p 2) (by rw [cp]) (gk_xih hp hC hH ?_ ?_)⟩
      · intro z
        refine br_t rfl ?_
        unfold wpY_idle
        refine hY _ (br_t e ⟨hin, br_t hd ⟨hin, nm_r (e' := upd a_modeOf p 2) (by rw [cp]) ⟨hin, br_t (by rw [cp]; exact z) ⟨rfl, gk_in (RL := RL) ?_⟩⟩⟩⟩)
        exact ⟨Nat.le_trans hk4 (Nat.le_add_right k 4), hC, gk_P_mode hm (by decide) hP, hH, hN, gk_QA_mode (by decide) qA, hQ⟩
      · intro z
        obtain ⟨hg, hb, hW, hmW⟩ := gk_grpP hC hp
        have g1 := (hC.2.2.2.2.2.1 p hp).1
        have g2 := (hC.2.2.2.2.2.1 p hp).2
        have cg : (nI (p / W)).toNatClampNeg = p / W := nI_clamp (by omega)
        have hig : vp_in (a_groupOf (nI p).toNatClampNeg) 4 := by rw [cp, g1]; exact vp_in_nI hg (by omega)
        refine br_f (by decide) ⟨hin, hig, hin, hig, nm_r (e' := upd a_leafIdled (p / W) (a_leafIdled (p / W) ||| ((1 : Int32) <<< (nI (p % W) &&& 31)))) (by rw [cp, g1, g2, cg]) ?_⟩
        unfold wpY_idle
        refine hY _ (br_t e ⟨hin, br_t hd ⟨hin, nm_r (e' := upd a_modeOf p 2) (by rw [cp]) ⟨hin, br_f (by rw [cp]; exact z) ⟨hin, nm_r (e' := upd a_idled p 1) (by rw [cp, gk_vb1]) ⟨rfl, gk_in (RL := RL) ?_⟩⟩⟩⟩⟩)
        exact ⟨Nat.le_trans hk4 (Nat.le_add_right k 4), hC, gk_P_mode hm (by decide) hP, gk_H_idle hp hC z hH, hN, gk_QA_mode (by decide) qA, hQ⟩
    · refine br_f hd ?_
      unfold wpY_idle
      exact hY _ (br_t e ⟨hin, br_f hd ⟨rfl, gk_in (gk_up4 H)⟩⟩)
  · refine br_f e ?_
    unfold wpY_idle
    exact hY _ (br_f e ⟨rfl, gk_in (gk_up4 H)⟩)
end
section
theorem i_vc_barrier {k : Nat} {u : SX} {v : SY} (I : i_Rel k u v) (hk : k + 4 ≤ 2052) : wpX_barrier (fun r u' => wpY_barrier (fun r' v' => r' = r ∧ i_Rel (k + 4) u' v') v) u := by
  refine gk_el (Pr := fun u v => wpX_barrier (fun r u' => wpY_barrier (fun r' v' => r' = r ∧ i_Rel (k + 4) u' v') v) u) ?_ I
  intro P W N R G C I RL f_onlineMask f_rootHeld f_freeNodes f_head f_freeSlot f_queued f_running f_newestNeed f_bound f_boundLeft f_last f_digest a_modeOf a_depthOf a_cursorOf a_notedOf a_passedOf a_seenOf a_groupOf a_groupBit a_groupStart a_leafHeld a_leafIdled a_stateOf a_keyOf a_valueOf a_linkOf a_birthsOf a_reclaimOf a_recordTicket a_recordOwner a_recordKind a_recordTag a_recordHops a_recordNeed a_recordNext a_slotOfTicket a_firstRecord a_firstWaiting a_lastRecord a_ownedCount a_readyCount a_cursor a_holder a_idled a_keys a_values a_kept a_rTicket a_rOwner a_rKind a_rTag a_rHops a_rNeed H
  obtain ⟨hk4, hC, hP, hH, hN, qA, qB, qC, qD, qS, qY, qN⟩ := H
  unfold wpX_barrier wpY_barrier
  refine gk_yqd hC.2.2.2.1.2 qY ⟨qS.1.symm, gk_in (RL := RL) ?_⟩
  refine ⟨Nat.le_trans hk4 (Nat.le_add_right k 4), hC, hP, hH, hN, qA, qB, qC, qD, ⟨qS.1, gk_lerf _, ?_⟩, qY, qN⟩
  rw [qS.1, List.countP_eq_length.mpr]
  intro r hr
  exact decide_eq_true (qA.2.1 r hr).2.1
theorem i_vc_online {k : Nat} {u : SX} {v : SY} (I : i_Rel k u v) (hk : k + 4 ≤ 2052) (v1 : Int32) : wpX_online (fun r u' => wpY_online (fun r' v' => r' = r ∧ i_Rel (k + 4) u' v') v v1) u v1 := by
  refine gk_el (Pr := fun u v => wpX_online (fun r u' => wpY_online (fun r' v' => r' = r ∧ i_Rel (k + 4) u' v') v v1) u v1) ?_ I
  intro P W N R G C I RL f_onlineMask f_rootHeld f_freeNodes f_head f_freeSlot f_queued f_running f_newestNeed f_bound f_boundLeft f_last f_digest a_modeOf a_depthOf a_cursorOf a_notedOf a_passedOf a_seenOf a_groupOf a_groupBit a_groupStart a_leafHeld a_leafIdled a_stateOf a_keyOf a_valueOf a_linkOf a_birthsOf a_reclaimOf a_recordTicket a_recordOwner a_recordKind a_recordTag a_recordHops a_recordNeed a_recordNext a_slotOfTicket a_firstRecord a_firstWaiting a_lastRecord a_ownedCount a_readyCount a_cursor a_holder a_idled a_keys a_values a_kept a_rTicket a_rOwner a_rKind a_rTag a_rHops a_rNeed H
  have hP8 := H.2.1.1.2
  unfold wpX_online
  rcases gk_isp hP8 v1 with ⟨p, hp, rfl⟩ | hx
  · have hin : vp_in (nI p) 8 := vp_in_nI (by omega) (by omega)
    have cp : (nI p).toNatClampNeg = p := nI_clamp (by omega)
    have y1 : ¬ nI p < 0 := nI_pos (by omega)
    have y2 : nI p < nI P := nI_lt hp (by omega)
    refine gk_exX hP8 hp (br_f (by decide) ⟨hin, ?_⟩)
    by_cases z : a_modeOf (nI p).toNatClampNeg = 0
    · refine br_t z (gk_xreset (by omega) ⟨hin, nm_r (e' := upd a_modeOf p 1) (by rw [cp, gk_uu]) ⟨hin, nm_r (e' := upd a_seenOf p (nI C)) (by rw [cp, gk_uu]) (nm_e ?_)⟩⟩)
      refine br_f y1 (br_t y2 ⟨hin, br_t z ⟨hin, nm_r (e' := upd a_modeOf p 1) (by rw [cp]) ⟨hin, nm_r (e' := upd a_depthOf p 0) (by rw [cp]) ⟨hin, nm_r (e' := upd a_cursor p (-1)) (by rw [cp]) ⟨hin, nm_r (e' := upd a_notedOf p 0) (by rw [cp]) ⟨hin, nm_r (e' := upd a_passedOf p 0) (by rw [cp]) ⟨hin, nm_r (e' := upd a_seenOf p (nI C)) (by rw [cp]) ⟨rfl, gk_in (RL := RL) ?_⟩⟩⟩⟩⟩⟩⟩⟩)
      rw [cp] at z
      obtain ⟨hk4, hC, hP, hH, hN, qA, qB, hQ⟩ := H
      have hP' := gk_P_cur (p := p) (x := -1) (Or.inl rfl) hP
      refine ⟨Nat.le_trans hk4 (Nat.le_add_right k 4), hC, ?_, hH, hN, gk_QA_mode (by decide) qA, gk_QB_seen (gk_QA_none hp hP8 z qA) qB, hQ⟩
      have hP2 := gk_P_seen (p := p) hP'
      refine ⟨?_, hP2.2⟩
      intro i hi
      rw [b_or, gk_b1 (by omega) hi, hP.1 i hi]
      by_cases e : i = p
      · subst e; rw [pk_us]; simp [hp]
      · rw [pk_un e]; simp [e]
    · exact br_f z (br_f y1 (br_t y2 ⟨hin, br_f z ⟨rfl, gk_in (gk_up4 H)⟩⟩))
  · refine gk_nX hP8 hx (br_t rfl ?_)
    exact gk_nY hP8 hx ⟨rfl, gk_in (gk_up4 H)⟩ ⟨rfl, gk_in (gk_up4 H)⟩
section
variable {k : Nat}
variable {P W N R G C I : Nat} {RL : List gk_Rec}
variable {f_onlineMask f_rootHeld f_freeNodes f_head f_freeSlot f_queued f_running f_newestNeed f_bound f_boundLeft f_last f_digest : Int32}
variable {a_modeOf a_depthOf a_cursorOf a_notedOf a_passedOf a_seenOf a_groupOf a_groupBit a_groupStart a_leafHeld a_leafIdled a_stateOf a_keyOf a_valueOf a_linkOf a_birthsOf a_reclaimOf a_recordTicket a_recordOwner a_recordKind a_recordTag a_recordHops a_recordNeed a_recordNext a_slotOfTicket a_firstRecord a_firstWaiting a_lastRecord a_ownedCount a_readyCount a_cursor a_holder a_idled a_keys a_values a_kept a_rTicket a_rOwner a_rKind a_rTag a_rHops a_rNeed : Nat → Int32}
/-- p learns, from its list in order -/
theorem gk_xtl {post : SX → Prop} {p : Nat} (hp : p < P) (hP : P ≤ 8) (hR : R ≤ 24) (hsn : a_seenOf p ≤ nI C) (qA : (gk_QA P C I f_running f_newestNeed a_modeOf RL)) (qB : (gk_QB P R a_recordTicket a_recordOwner a_recordKind a_recordTag a_recordHops a_recordNeed a_recordNext a_slotOfTicket a_seenOf a_firstRecord a_firstWaiting a_lastRecord a_ownedCount a_readyCount RL)) (qC : (gk_QC R I a_recordTicket a_recordOwner a_recordKind a_recordTag a_recordHops a_recordNeed a_recordNext f_freeSlot RL))
    (K : ∀ fw' rc', (gk_QB P R a_recordTicket a_recordOwner a_recordKind a_recordTag a_recordHops a_recordNeed a_recordNext a_slotOfTicket (upd a_seenOf p (nI C)) a_firstRecord fw' a_lastRecord a_ownedCount rc' RL) → post (nI P, nI N, nI R, nI G, f_onlineMask, f_rootHeld, f_freeNodes, f_head, f_freeSlot, f_queued, f_running, nI C, nI I, f_newestNeed, f_bound, f_boundLeft, f_last, f_digest, a_modeOf, a_depthOf, a_cursorOf, a_notedOf, a_passedOf, upd a_seenOf p (nI C), a_groupOf, a_groupBit, a_groupStart, a_leafHeld, a_leafIdled, a_stateOf, a_keyOf, a_valueOf, a_linkOf, a_birthsOf, a_reclaimOf, a_recordTicket, a_recordOwner, a_recordKind, a_recordTag, a_recordHops, a_recordNeed, a_recordNext, a_slotOfTicket, a_firstRecord, fw', a_lastRecord, a_ownedCount, rc')) :
    wpX_learnCompleted post (nI P, nI N, nI R, nI G, f_onlineMask, f_rootHeld, f_freeNodes, f_head, f_freeSlot, f_queued, f_running, nI C, nI I, f_newestNeed, f_bound, f_boundLeft, f_last, f_digest, a_modeOf, a_depthOf, a_cursorOf, a_notedOf, a_passedOf, a_seenOf, a_groupOf, a_groupBit, a_groupStart, a_leafHeld, a_leafIdled, a_stateOf, a_keyOf, a_valueOf, a_linkOf, a_birthsOf, a_reclaimOf, a_recordTicket, a_recordOwner, a_recordKind, a_recordTag, a_recordHops, a_recordNeed, a_recordNext, a_slotOfTicket, a_firstRecord, a_firstWaiting, a_lastRecord, a_ownedCount, a_readyCount) (nI p) := by
  obtain ⟨A, B, HL⟩ := qB p hp
  exact gk_xlearn hp hP hR qA.1 (gk_QC_len qC) (fun q hq _ => qB q hq) HL.1 HL.2.1 HL.2.2.1 (fun s hs => gk_let (HL.2.2.2.1 s hs) hsn) K
end
theorem i_vc_tick {k : Nat} {u : SX} {v : SY} (I : i_Rel k u v) (hk : k + 4 ≤ 2052) (v1 : Int32) : wpX_tick (fun r u' => wpY_tick (fun r' v' => r' = r ∧ i_Rel (k + 4) u' v') v v1) u v1 := by
  refine gk_el (Pr := fun u v => wpX_tick (fun r u' => wpY_tick (fun r' v' => r' = r ∧ i_Rel (k + 4) u' v') v v1) u v1) ?_ I
  intro P W N R G C I RL f_onlineMask f_rootHeld f_freeNodes f_head f_freeSlot f_queued f_running f_newestNeed f_bound f_boundLeft f_last f_digest a_modeOf a_depthOf a_cursorOf a_notedOf a_passedOf a_seenOf a_groupOf a_groupBit a_groupStart a_leafHeld a_leafIdled a_stateOf a_keyOf a_valueOf a_linkOf a_birthsOf a_reclaimOf a_recordTicket a_recordOwner a_recordKind a_recordTag a_recordHops a_recordNeed a_recordNext a_slotOfTicket a_firstRecord a_firstWaiting a_lastRecord a_ownedCount a_readyCount a_cursor a_holder a_idled a_keys a_values a_kept a_rTicket a_rOwner a_rKind a_rTag a_rHops a_rNeed H
  obtain ⟨r, hX, hY, h0⟩ : gk_CK P a_modeOf (nI P, nI N, nI R, nI G, f_onlineMask, f_rootHeld, f_freeNodes, f_head, f_freeSlot, f_queued, f_running, nI C, nI I, f_newestNeed, f_bound, f_boundLeft, f_last, f_digest, a_modeOf, a_depthOf, a_cursorOf, a_notedOf, a_passedOf, a_seenOf, a_groupOf, a_groupBit, a_groupStart, a_leafHeld, a_leafIdled, a_stateOf, a_keyOf, a_valueOf, a_linkOf, a_birthsOf, a_reclaimOf, a_recordTicket, a_recordOwner, a_recordKind, a_recordTag, a_recordHops, a_recordNeed, a_recordNext, a_slotOfTicket, a_firstRecord, a_firstWaiting, a_lastRecord, a_ownedCount, a_readyCount) (nI P, nI W, nI N, nI R, f_running, nI C, nI I, f_bound, f_last, f_digest, a_modeOf, a_depthOf, a_cursor, a_notedOf, a_passedOf, a_seenOf, a_holder, a_idled, a_stateOf, a_keys, a_values, a_kept, a_birthsOf, a_rTicket, a_rOwner, a_rKind, a_rTag, a_rHops, a_rNeed) v1 := gk_ck H.2.1.1.2 v1
  unfold wpX_tick
  refine hX _ ?_
  by_cases e : r = 0
  · obtain ⟨p, hp, rfl, hm⟩ := h0 e
    obtain ⟨hk4, hC, hP, hH, hN, qA, qB, qC, qD, qS, qY, qN⟩ := H
    have hP8 := hC.1.2
    have hin : vp_in (nI p) 8 := vp_in_nI (by omega) (by omega)
    have cp : (nI p).toNatClampNeg = p := nI_clamp (by omega)
    have hk5 : 4 * C ≤ k + 4 := Nat.le_trans hk4 (Nat.le_add_right k 4)
    refine br_t e (gk_xtl hp hP8 hC.2.2.2.1.2 (hP.2.2 p hp) qA qB qC ?_)
    intro fw' rc' qB'
    have hP' := gk_P_seen (p := p) hP
    by_cases z : f_running = 0
    · refine br_t z ?_
      unfold wpY_tick
      exact hY _ (br_t e ⟨hin, nm_r (e' := upd a_seenOf p (nI C)) (by rw [cp]) (br_t z ⟨rfl, gk_in ⟨hk5, hC, hP', hH, hN, qA, qB', qC, qD, qS, qY, qN⟩⟩)⟩)
    · refine br_f z (nm_e ⟨hin, ?_⟩)
      by_cases y : a_notedOf (nI p).toNatClampNeg = nI C + 1
      · refine br_t y (gk_xih hp hC hH ?_ ?_)
        · intro w
          refine br_t rfl ?_
          unfold wpY_tick
          exact hY _ (br_t e ⟨hin, nm_r (e' := upd a_seenOf p (nI C)) (by rw [cp]) (br_f z ⟨hin, br_t y ⟨hin, br_t (by rw [cp]; exact w) ⟨rfl, gk_in ⟨hk5, hC, hP', hH, hN, qA, qB', qC, qD, qS, qY, qN⟩⟩⟩⟩)⟩)
        · intro w
          refine br_f (by decide) ⟨hin, ?_⟩
          by_cases x : a_passedOf (nI p).toNatClampNeg = 0
          · refine br_t x ?_
            unfold wpY_tick
            exact hY _ (br_t e ⟨hin, nm_r (e' := upd a_seenOf p (nI C)) (by rw [cp]) (br_f z ⟨hin, br_t y ⟨hin, br_f (by rw [cp]; exact w) ⟨hin, br_t x ⟨rfl, gk_in ⟨hk5, hC, hP', hH, hN, qA, qB', qC, qD, qS, qY, qN⟩⟩⟩⟩⟩)⟩)
          · refine br_f x (gk_xrel hp hC hH ?_)
            intro rH lH lI hH'
            unfold wpY_tick
            exact hY _ (br_t e ⟨hin, nm_r (e' := upd a_seenOf p (nI C)) (by rw [cp]) (br_f z ⟨hin, br_t y ⟨hin, br_f (by rw [cp]; exact w) ⟨hin, br_f x ⟨hin, nm_r (e' := upd a_holder p 0) (by rw [cp, gk_vb0]) ⟨rfl, gk_in ⟨hk5, hC, hP', hH', hN, qA, qB', qC, qD, qS, qY, qN⟩⟩⟩⟩⟩⟩)⟩)
      · refine br_f y ⟨hin, nm_e ⟨hin, nm_e ?_⟩⟩
        unfold wpY_tick
        exact hY _ (br_t e ⟨hin, nm_r (e' := upd a_seenOf p (nI C)) (by rw [cp]) (br_f z ⟨hin, br_f y ⟨hin, nm_e ⟨hin, nm_e ⟨rfl, gk_in ⟨hk5, hC, hP', hH, hN, qA, qB', qC, qD, qS, qY, qN⟩⟩⟩⟩⟩)⟩)
  · refine br_f e ?_
    unfold wpY_tick
    exact hY _ (br_f e ⟨rfl, gk_in (gk_up4 H)⟩)
end
section
def gk_dn : Nat → Int32
  | 0 => -1
  | j + 1 => nI j
theorem gk_dn_s (j : Nat) : nI j + (-1) = gk_dn j := by
  cases j with
  | zero => decide
  | succ j => exact pk_m1 j
/-- the lowest other online processor, seen down to j -/
def gk_HI (P p : Nat) (md : Nat → Int32) (j : Nat) (x : Int32) : Prop :=
  (x = -1 ∧ ∀ q, j ≤ q → q < P → ¬ (q ≠ p ∧ md q ≠ 0)) ∨ (∃ h, x = nI h ∧ h < P ∧ h ≠ p ∧ md h ≠ 0 ∧ ∀ q, j ≤ q → q < h → ¬ (q ≠ p ∧ md q ≠ 0))
theorem gk_HI_keep {P p : Nat} {md : Nat → Int32} {j : Nat} {x : Int32} (h : ¬ (j ≠ p ∧ md j ≠ 0)) (H : gk_HI P p md (j + 1) x) : gk_HI P p md j x := by
  rcases H with ⟨e, H⟩ | ⟨q, e, h1, h2, h3, h4⟩
  · refine Or.inl ⟨e, fun q hq => ?_⟩
    by_cases z : q = j
    · rw [z]; exact fun _ => h
    · exact H q (by omega)
  · refine Or.inr ⟨q, e, h1, h2, h3, fun q' hq' => ?_⟩
    by_cases z : q' = j
    · rw [z]; exact fun _ => h
    · exact h4 q' (by omega)
theorem gk_HI_new {P p : Nat} {md : Nat → Int32} {j : Nat} (hj : j < P) (h1 : j ≠ p) (h2 : md j ≠ 0) : gk_HI P p md j (nI j) :=
  Or.inr ⟨j, rfl, hj, h1, h2, fun q h3 h4 => absurd h4 (by omega)⟩
section
variable {k : Nat}
variable {P W N R G C I : Nat} {RL : List gk_Rec}
variable {f_onlineMask f_rootHeld f_freeNodes f_head f_freeSlot f_queued f_running f_newestNeed f_bound f_boundLeft f_last f_digest : Int32}
variable {a_modeOf a_depthOf a_cursorOf a_notedOf a_passedOf a_seenOf a_groupOf a_groupBit a_groupStart a_leafHeld a_leafIdled a_stateOf a_keyOf a_valueOf a_linkOf a_birthsOf a_reclaimOf a_recordTicket a_recordOwner a_recordKind a_recordTag a_recordHops a_recordNeed a_recordNext a_slotOfTicket a_firstRecord a_firstWaiting a_lastRecord a_ownedCount a_readyCount a_cursor a_holder a_idled a_keys a_values a_kept a_rTicket a_rOwner a_rKind a_rTag a_rHops a_rNeed : Nat → Int32}
theorem gk_yheir_l {post : Int32 → SY → Prop} {p : Nat} (hp : p < P) (hP : P ≤ 8)
    (h1 : ∀ h, h < P → h ≠ p → a_modeOf h ≠ 0 → (∀ q, q < h → ¬ (q ≠ p ∧ a_modeOf q ≠ 0)) → wY_offline_90 post (nI p) (nI h) (nI P) (nI W) (nI N) (nI R) f_running (nI C) (nI I) f_bound f_last f_digest (R + 1) 0 a_modeOf a_depthOf a_cursor a_notedOf a_passedOf a_seenOf (upd a_holder p 0) a_idled a_stateOf a_keys a_values a_kept a_birthsOf a_rTicket a_rOwner a_rKind a_rTag a_rHops a_rNeed)
    (h0 : (∀ q, q < P → ¬ (q ≠ p ∧ a_modeOf q ≠ 0)) → post (-9) (nI P, nI W, nI N, nI R, f_running, nI C, nI I, f_bound, f_last, f_digest, a_modeOf, a_depthOf, a_cursor, a_notedOf, a_passedOf, a_seenOf, a_holder, a_idled, a_stateOf, a_keys, a_values, a_kept, a_birthsOf, a_rTicket, a_rOwner, a_rKind, a_rTag, a_rHops, a_rNeed)) :
    ∀ (j n : Nat) (x2 : Int32), j < n → j ≤ P → gk_HI P p a_modeOf j x2 → wY_offline_48 post (nI p) (nI P) (nI W) (nI N) (nI R) f_running (nI C) (nI I) f_bound f_last f_digest a_modeOf a_depthOf a_cursor a_notedOf a_passedOf a_seenOf a_holder a_idled a_stateOf a_keys a_values a_kept a_birthsOf a_rTicket a_rOwner a_rKind a_rTag a_rHops a_rNeed n x2 (gk_dn j) := by
  intro j
  induction j with
  | zero =>
    intro n x2 hn hj H
    cases n with
    | zero => omega
    | succ n =>
      refine br_t gk_m1lt ?_
      rcases H with ⟨e, H⟩ | ⟨h, e, g1, g2, g3, g4⟩
      · rw [e]; exact br_f gk_0nle (h0 (fun q hq => H q (by omega) hq))
      · rw [e]
        refine br_t (nI_pos' (by omega)) ⟨vp_in_nI (by omega) (by omega), nm_r (e' := upd a_holder p 0) (by rw [nI_clamp (by omega), gk_vb0]) ⟨R + 1, h1 h g1 g2 g3 (fun q hq => g4 q (by omega) hq)⟩⟩
  | succ j ih =>
    intro n x2 hn hj H
    cases n with
    | zero => omega
    | succ n =>
      refine br_f (nI_pos (n := j) (by omega)) ?_
      have c : (nI j).toNatClampNeg = j := nI_clamp (by omega)
      by_cases z : nI j = nI p
      · refine br_t z (nm_r (gk_dn_s j) (ih n x2 (by omega) (by omega) (gk_HI_keep ?_ H)))
        have := gk_inj z (by omega) (by omega)
        intro y; exact y.1 this
      · have hjp : j ≠ p := fun y => z (by rw [y])
        refine br_f z ⟨vp_in_nI (n := j) (by omega) (by omega), ?_⟩
        by_cases y : a_modeOf (nI j).toNatClampNeg = 0
        · refine br_t y (nm_r (gk_dn_s j) (ih n x2 (by omega) (by omega) (gk_HI_keep ?_ H)))
          rw [c] at y
          exact fun w => w.2 y
        · refine br_f y (nm_r (gk_dn_s j) (ih n (nI j) (by omega) (by omega) (gk_HI_new (by omega) hjp ?_)))
          rw [c] at y; exact y
theorem gk_yoff_l {post : Int32 → SY → Prop} {p h : Nat} (hp : p < P) (hh : h < P) (hP : P ≤ 8) (hR : R ≤ 24)
    (K : ∀ ow', (∀ i, i < R → gk_f a_rTicket ow' a_rKind a_rTag a_rHops a_rNeed i = ((gk_f a_rTicket a_rOwner a_rKind a_rTag a_rHops a_rNeed) i).map (gk_mv p h)) →
      post (nI h) (nI P, nI W, nI N, nI R, f_running, nI C, nI I, f_bound, f_last, f_digest, upd a_modeOf p 0, upd a_depthOf p 0, upd a_cursor p (-1), upd a_notedOf p 0, upd a_passedOf p 0, upd (upd a_seenOf h (nI C)) p 0, a_holder, a_idled, a_stateOf, a_keys, a_values, a_kept, a_birthsOf, a_rTicket, ow', a_rKind, a_rTag, a_rHops, a_rNeed)) :
    ∀ (n j : Nat) (ow' : Nat → Int32), R - j < n → j ≤ R → (∀ i, i < j → a_rTicket i ≠ 0 → a_rOwner i = nI p → ow' i = nI h) → (∀ i, ¬ (i < j ∧ a_rTicket i ≠ 0 ∧ a_rOwner i = nI p) → ow' i = a_rOwner i) →
    wY_offline_90 post (nI p) (nI h) (nI P) (nI W) (nI N) (nI R) f_running (nI C) (nI I) f_bound f_last f_digest n (nI j) a_modeOf a_depthOf a_cursor a_notedOf a_passedOf a_seenOf a_holder a_idled a_stateOf a_keys a_values a_kept a_birthsOf a_rTicket ow' a_rKind a_rTag a_rHops a_rNeed := by
  have hip : vp_in (nI p) 8 := vp_in_nI (by omega) (by omega)
  have hih : vp_in (nI h) 8 := vp_in_nI (by omega) (by omega)
  have cp : (nI p).toNatClampNeg = p := nI_clamp (by omega)
  have ch : (nI h).toNatClampNeg = h := nI_clamp (by omega)
  intro n
  induction n with
  | zero => intro j ow' h; omega
  | succ n ih =>
    intro j ow' hn hj o1 o2
    by_cases e : j = R
    · subst e
      refine br_t (gk_lerf _) ⟨hih, nm_r (e' := upd a_seenOf h (nI C)) (by rw [ch]) ⟨hip, nm_r (e' := upd a_modeOf p 0) (by rw [cp]) ⟨hip, nm_r (e' := upd a_depthOf p 0) (by rw [cp]) ⟨hip, nm_r (e' := upd a_cursor p (-1)) (by rw [cp]) ⟨hip, nm_r (e' := upd a_notedOf p 0) (by rw [cp]) ⟨hip, nm_r (e' := upd a_passedOf p 0) (by rw [cp]) ⟨hip, nm_r (e' := upd (upd a_seenOf h (nI C)) p 0) (by rw [cp]) (K ow' ?_)⟩⟩⟩⟩⟩⟩⟩
      intro i hi
      by_cases t : a_rTicket i = 0
      · rw [gk_f_n t, gk_f_n t]; rfl
      · rw [gk_f_s t, gk_f_s t]
        show some _ = some _
        congr 1
        by_cases w : a_rOwner i = nI p
        · rw [gk_mv_t (gk_ow_t w)]
          unfold gk_d
          rw [o1 i hi t w]
        · rw [gk_mv_f (fun y => w (gk_ow_i.mp y))]
          unfold gk_d
          rw [o2 i (fun y => w y.2.2)]
    · have hlt : j < R := by omega
      have c : (nI j).toNatClampNeg = j := nI_clamp (by omega)
      have hin : vp_in (nI j) 24 := vp_in_nI (by omega) (by omega)
      refine br_f (nI_ge hlt (by omega)) ⟨hin, ?_⟩
      have stay : ¬ (a_rTicket j ≠ 0 ∧ a_rOwner j = nI p) → wY_offline_90 post (nI p) (nI h) (nI P) (nI W) (nI N) (nI R) f_running (nI C) (nI I) f_bound f_last f_digest n (nI (j + 1)) a_modeOf a_depthOf a_cursor a_notedOf a_passedOf a_seenOf a_holder a_idled a_stateOf a_keys a_values a_kept a_birthsOf a_rTicket ow' a_rKind a_rTag a_rHops a_rNeed := by
        intro w
        refine ih (j + 1) ow' (by omega) (by omega) ?_ ?_
        · intro i hi t y
          by_cases ei : i = j
          · rw [ei] at t y; exact absurd ⟨t, y⟩ w
          · exact o1 i (by omega) t y
        · intro i hi
          apply o2
          intro y
          exact hi ⟨by omega, y.2⟩
      by_cases t : a_rTicket (nI j).toNatClampNeg = 0
      · refine br_t t (nm_r (nI_1 j) (stay ?_))
        rw [c] at t
        exact fun y => y.1 t
      · refine br_f t ⟨hin, ?_⟩
        have oj : ow' (nI j).toNatClampNeg = a_rOwner j := by rw [c]; exact o2 j (fun y => by omega)
        by_cases w : a_rOwner j = nI p
        · refine br_t (by rw [oj]; exact w) ⟨hin, nm_r (e' := upd ow' j (nI h)) (by rw [c]) (nm_r (nI_1 j) ?_)⟩
          rw [c] at t
          refine ih (j + 1) _ (by omega) (by omega) ?_ ?_
          · intro i hi t' y
            by_cases ei : i = j
            · rw [ei, pk_us]
            · rw [pk_un ei]; exact o1 i (by omega) t' y
          · intro i hi
            have ei : i ≠ j := fun y => hi (by rw [y]; exact ⟨by omega, t, w⟩)
            rw [pk_un ei]
            apply o2
            intro y
            exact hi ⟨by omega, y.2⟩
        · refine br_f (by rw [oj]; exact w) (nm_r (nI_1 j) (stay (fun y => w y.2)))
theorem gk_QN_mv {p h : Nat} (H : (gk_QN N a_stateOf a_reclaimOf RL)) : (gk_QN N a_stateOf a_reclaimOf (RL.map (gk_mv p h))) := by
  refine ⟨?_, ?_⟩
  · intro r hr
    obtain ⟨r0, h0, rfl⟩ := List.mem_map.mp hr
    rw [(gk_mv_1 p h r0).1, (gk_mv_1 p h r0).2]
    exact H.1 r0 h0
  · intro n hn hs
    obtain ⟨r, h1, h2⟩ := H.2 n hn hs
    refine ⟨_, List.mem_map_of_mem h1, ?_⟩
    rw [(gk_mv_1 p h r).2]
    exact h2
theorem gk_P_off {p h : Nat} {oth : Int32} (hC : C ≤ 1000) (hh : h < P) (ho : ∀ i, i < 32 → bt oth i = ((decide (i < P) && decide (a_modeOf i ≠ 0)) && !decide (i = p))) (H : (gk_P P N C f_onlineMask a_modeOf a_cursorOf a_seenOf a_cursor)) :
    (gk_P P N C oth (upd a_modeOf p 0) (upd a_cursorOf p (-1)) (upd (upd a_seenOf h (nI C)) p 0) (upd a_cursor p (-1))) := by
  have H1 := gk_P_cur (p := p) (x := -1) (Or.inl rfl) H
  have H2 := gk_P_seen (p := h) H1
  refine ⟨?_, H2.2.1, ?_⟩
  · intro i hi
    rw [ho i hi]
    by_cases e : i = p
    · subst e; rw [pk_us]; simp
    · rw [pk_un e]; simp [e]
  · intro q hq
    by_cases e : q = p
    · subst e; rw [pk_us]; exact nI_pos' (by omega)
    · rw [pk_un e]; exact H2.2.2 q hq
end
theorem i_vc_offline {k : Nat} {u : SX} {v : SY} (I : i_Rel k u v) (hk : k + 4 ≤ 2052) (v1 : Int32) : wpX_offline (fun r u' => wpY_offline (fun r' v' => r' = r ∧ i_Rel (k + 4) u' v') v v1) u v1 := by
  refine gk_el (Pr := fun u v => wpX_offline (fun r u' => wpY_offline (fun r' v' => r' = r ∧ i_Rel (k + 4) u' v') v v1) u v1) ?_ I
  intro P W N R G C I RL f_onlineMask f_rootHeld f_freeNodes f_head f_freeSlot f_queued f_running f_newestNeed f_bound f_boundLeft f_last f_digest a_modeOf a_depthOf a_cursorOf a_notedOf a_passedOf a_seenOf a_groupOf a_groupBit a_groupStart a_leafHeld a_leafIdled a_stateOf a_keyOf a_valueOf a_linkOf a_birthsOf a_reclaimOf a_recordTicket a_recordOwner a_recordKind a_recordTag a_recordHops a_recordNeed a_recordNext a_slotOfTicket a_firstRecord a_firstWaiting a_lastRecord a_ownedCount a_readyCount a_cursor a_holder a_idled a_keys a_values a_kept a_rTicket a_rOwner a_rKind a_rTag a_rHops a_rNeed H
  have hP8 := H.2.1.1.2
  unfold wpX_offline
  rcases gk_isp hP8 v1 with ⟨p, hp, rfl⟩ | hx
  · have hin : vp_in (nI p) 8 := vp_in_nI (by omega) (by omega)
    have cp : (nI p).toNatClampNeg = p := nI_clamp (by omega)
    have y1 : ¬ nI p < 0 := nI_pos (by omega)
    have y2 : nI p < nI P := nI_lt hp (by omega)
    refine gk_exX hP8 hp (br_f (by decide) ⟨hin, ?_⟩)
    by_cases z : a_modeOf (nI p).toNatClampNeg = 0
    · exact br_t z (br_f y1 (br_t y2 ⟨hin, br_t z ⟨rfl, gk_in (gk_up4 H)⟩⟩))
    · refine br_f z ⟨hin, ?_⟩
      by_cases hd : a_depthOf (nI p).toNatClampNeg ≤ 0
      · refine br_t hd ?_
        intro oth eo
        have H0 := H
        obtain ⟨hk4, hC, hP, hH, hN, qA, qB, qC, qD, qS, qY, qN⟩ := H
        have hR := hC.2.2.2.1.2
        have ho : ∀ i, i < 32 → bt oth i = ((decide (i < P) && decide (a_modeOf i ≠ 0)) && !decide (i = p)) := by
          intro i hi
          rw [eo, b_and, gk_bn _ hi, gk_b1 (by omega) hi, hP.1 i hi]
        have hdn : nI P - 1 = gk_dn P := by
          obtain ⟨P', rfl⟩ : ∃ P', P = P' + 1 := ⟨P - 1, by omega⟩
          exact nI_pred P'
        by_cases w : oth = 0
        · refine br_t w (br_f y1 (br_t y2 ⟨hin, br_f z ⟨hin, br_t hd (nm_r hdn ⟨P + 1, ?_⟩)⟩⟩))
          have hno : ∀ q, q < P → ¬ (q ≠ p ∧ a_modeOf q ≠ 0) := by
            intro q hq ⟨g1, g2⟩
            have := ho q (by omega)
            rw [w, b_0] at this
            simp [hq, g1, g2] at this
          refine gk_yheir_l hp hP8 ?_ (fun _ => ⟨rfl, gk_in (gk_up4 H0)⟩) P (P + 1) (-1) (by omega) (by omega) (Or.inl ⟨rfl, fun q h1 h2 => absurd h2 (by omega)⟩)
          intro h g1 g2 g3
          exact absurd ⟨g2, g3⟩ (hno h g1)
        · have hex : ∃ q, q < P ∧ q ≠ p ∧ a_modeOf q ≠ 0 := by
            refine Classical.byContradiction fun hno => w (gk_z0.mpr ?_)
            intro i hi
            rw [ho i hi]
            by_cases g1 : i < P
            · by_cases g2 : i = p
              · simp [g2]
              · by_cases g3 : a_modeOf i = 0
                · simp [g3]
                · exact absurd ⟨i, g1, g2, g3⟩ hno
            · simp [g1]
          obtain ⟨h, ⟨hh, hhp, hhm⟩, hmin⟩ := pk_least _ hex
          have hlow : ∀ q, q < h → ¬ (q ≠ p ∧ a_modeOf q ≠ 0) := fun q hq g => hmin q hq ⟨by omega, g⟩
          refine br_f w (gk_xrel hp hC hH ?_)
          intro rH lH lI hH'
          refine gk_xlow_at (b := h) (by omega) ?_ ?_ ?_
          · rw [ho h (by omega)]; simp [hh, hhp, hhm]
          · intro j hj
            rw [ho j (by omega)]
            have := hlow j hj
            by_cases g2 : j = p
            · simp [g2]
            · have g3 : a_modeOf j = 0 := Classical.byContradiction fun g => this ⟨g2, g⟩
              simp [g3]
          · refine gk_xmerge hp hh (Ne.symm hhp) hP8 hR hhm ⟨qA, qB, qC, qD, qS⟩ ?_
            intro D ow' nx' fr' fw' la' oc' rc' _ L0h hfw hrc qA' qC' qD' qS' qBx
            refine gk_xlearn (A := []) (B := D) hh hP8 hR qA'.1 (gk_QC_len qC') qBx L0h hfw hrc (fun s hs => by simp at hs) ?_
            intro fw2 rc2 qB'
            refine gk_xreset (by omega) ?_
            refine br_f y1 (br_t y2 ⟨hin, br_f z ⟨hin, br_t hd (nm_r hdn ⟨P + 1, ?_⟩)⟩⟩)
            refine gk_yheir_l hp hP8 ?_ (fun g => absurd ⟨hhp, hhm⟩ (g h hh)) P (P + 1) (-1) (by omega) (by omega) (Or.inl ⟨rfl, fun q h1 h2 => absurd h2 (by omega)⟩)
            intro h' g1 g2 g3 g4
            have eh : h' = h := by
              rcases Nat.lt_trichotomy h' h with g | g | g
              · exact absurd ⟨g2, g3⟩ (hlow h' g)
              · exact g
              · exact absurd ⟨hhp, hhm⟩ (g4 h g)
            subst eh
            refine gk_yoff_l hp hh hP8 hR ?_ (R + 1) 0 a_rOwner (by omega) (by omega) (fun i hi => absurd hi (by omega)) (fun i _ => rfl)
            intro yow' hy
            refine ⟨rfl, gk_in (RL := RL.map (gk_mv p h')) ?_⟩
            refine ⟨Nat.le_trans hk4 (Nat.le_add_right k 4), hC, gk_P_off (by omega) hh ho hP, hH', hN, qA', gk_QB_seen (gk_mv_fp (Ne.symm hhp) (by omega) (by omega) RL) qB', qC', qD', qS', ?_, gk_QN_mv qN⟩
            show (gk_yl _ R).Perm _
            rw [gk_yl_map hy]
            exact qY.map _
      · exact br_f hd (br_f y1 (br_t y2 ⟨hin, br_f z ⟨hin, br_f hd ⟨rfl, gk_in (gk_up4 H)⟩⟩⟩))
  · refine gk_nX hP8 hx (br_t rfl ?_)
    exact gk_nY hP8 hx ⟨rfl, gk_in (gk_up4 H)⟩ ⟨rfl, gk_in (gk_up4 H)⟩
end
section
section
variable {k : Nat}
variable {P W N R G C I : Nat} {RL : List gk_Rec}
variable {f_onlineMask f_rootHeld f_freeNodes f_head f_freeSlot f_queued f_running f_newestNeed f_bound f_boundLeft f_last f_digest : Int32}
variable {a_modeOf a_depthOf a_cursorOf a_notedOf a_passedOf a_seenOf a_groupOf a_groupBit a_groupStart a_leafHeld a_leafIdled a_stateOf a_keyOf a_valueOf a_linkOf a_birthsOf a_reclaimOf a_recordTicket a_recordOwner a_recordKind a_recordTag a_recordHops a_recordNeed a_recordNext a_slotOfTicket a_firstRecord a_firstWaiting a_lastRecord a_ownedCount a_readyCount a_cursor a_holder a_idled a_keys a_values a_kept a_rTicket a_rOwner a_rKind a_rTag a_rHops a_rNeed : Nat → Int32}
theorem gk_H_cg {holder' idled' : Nat → Int32} (h1 : ∀ q, q < P → gk_hb P holder' q = gk_hb P a_holder q) (h2 : ∀ q, q < P → gk_ib P holder' idled' q = gk_ib P a_holder a_idled q) (H : (gk_H P W f_running f_rootHeld a_leafHeld a_leafIdled a_holder a_idled)) : (gk_H P W f_running f_rootHeld a_leafHeld a_leafIdled holder' idled') := by
  have e1 : ∀ q, gk_hb P holder' q = gk_hb P a_holder q := by
    intro q
    by_cases e : q < P
    · exact h1 q e
    · rw [gk_hb_o (by omega), gk_hb_o (by omega)]
  have e2 : ∀ q, gk_ib P holder' idled' q = gk_ib P a_holder a_idled q := by
    intro q
    by_cases e : q < P
    · exact h2 q e
    · unfold gk_ib; rw [gk_hb_o (by omega), gk_hb_o (by omega)]; rfl
  refine ⟨fun g hg i hi => by rw [e1]; exact H.1 g hg i hi, fun g hg i hi => by rw [e2]; exact H.2.1 g hg i hi, H.2.2.1, ?_⟩
  intro hr p hp
  have h3 := h1 p hp
  rw [(gk_hb_z hp).mpr (H.2.2.2 hr p hp)] at h3
  exact (gk_hb_z hp).mp h3
/-- the holders once the groups below g are scanned -/
def gk_hol (P W : Nat) (a_holder a_idled : Nat → Int32) (g : Nat) (q : Nat) : Int32 := if decide (q / W < g) && gk_ib P a_holder a_idled q then 0 else a_holder q
theorem gk_hol_hb {g q : Nat} (hq : q < P) : gk_hb P (gk_hol P W a_holder a_idled g) q = (gk_hb P a_holder q && !(decide (q / W < g) && gk_ib P a_holder a_idled q)) := by
  rw [gk_hb_f hq, gk_hb_f hq]
  unfold gk_hol
  cases h : (decide (q / W < g) && gk_ib P a_holder a_idled q) with
  | true => simp
  | false => simp
theorem gk_ib_o {q : Nat} (h : P ≤ q) : gk_ib P a_holder a_idled q = false := by unfold gk_ib; rw [gk_hb_o h]; rfl
theorem gk_xscan_l {post : Int32 → SX → Prop} (hC : (gk_C P W N R G a_groupOf a_groupBit a_groupStart))
    (K : ∀ rH lH lI, (gk_H P W f_running rH lH lI (gk_hol P W a_holder a_idled G) a_idled) → post (nI (gk_cn (gk_ib P a_holder a_idled) (G * W))) (nI P, nI N, nI R, nI G, f_onlineMask, rH, f_freeNodes, f_head, f_freeSlot, f_queued, f_running, nI C, nI I, f_newestNeed, f_bound, f_boundLeft, f_last, f_digest, a_modeOf, a_depthOf, a_cursorOf, a_notedOf, a_passedOf, a_seenOf, a_groupOf, a_groupBit, a_groupStart, lH, lI, a_stateOf, a_keyOf, a_valueOf, a_linkOf, a_birthsOf, a_reclaimOf, a_recordTicket, a_recordOwner, a_recordKind, a_recordTag, a_recordHops, a_recordNeed, a_recordNext, a_slotOfTicket, a_firstRecord, a_firstWaiting, a_lastRecord, a_ownedCount, a_readyCount)) :
    ∀ (n g : Nat) (rH : Int32) (lH lI : Nat → Int32), G - g < n → g ≤ G → (gk_H P W f_running rH lH lI (gk_hol P W a_holder a_idled g) a_idled) →
    wX_scan_4 post n (nI (gk_cn (gk_ib P a_holder a_idled) (g * W))) (nI g) (nI P) (nI N) (nI R) (nI G) f_onlineMask rH f_freeNodes f_head f_freeSlot f_queued f_running (nI C) (nI I) f_newestNeed f_bound f_boundLeft f_last f_digest a_modeOf a_depthOf a_cursorOf a_notedOf a_passedOf a_seenOf a_groupOf a_groupBit a_groupStart lH lI a_stateOf a_keyOf a_valueOf a_linkOf a_birthsOf a_reclaimOf a_recordTicket a_recordOwner a_recordKind a_recordTag a_recordHops a_recordNeed a_recordNext a_slotOfTicket a_firstRecord a_firstWaiting a_lastRecord a_ownedCount a_readyCount := by
  intro n
  induction n with
  | zero => intro g rH lH lI h; omega
  | succ n ih =>
    intro g rH lH lI hn hg H
    have hG := hC.2.2.2.2.1
    have hW := hC.2.1
    by_cases e : g = G
    · subst e
      exact br_t (gk_lerf _) (K rH lH lI H)
    · have hlt : g < G := by omega
      have hin : vp_in (nI g) 4 := vp_in_nI (by omega) (by omega)
      have c : (nI g).toNatClampNeg = g := nI_clamp (by omega)
      have hgone : ∀ i, i < 32 → bt (lH g &&& lI g) i = (decide (i < W) && gk_ib P a_holder a_idled (g * W + i)) := by
        intro i hi
        rw [b_and, H.1 g (by omega) i hi, H.2.1 g (by omega) i hi]
        by_cases ei : i < W
        · rw [decide_eq_true ei, Bool.true_and, Bool.true_and, Bool.true_and]
          have hd := (gk_grp (g := g) ei).1
          have e1 : gk_hb P (gk_hol P W a_holder a_idled g) (g * W + i) = gk_hb P a_holder (g * W + i) := by
            by_cases hq : g * W + i < P
            · rw [gk_hol_hb hq, hd]; simp
            · rw [gk_hb_o (by omega), gk_hb_o (by omega)]
          unfold gk_ib
          rw [e1]
          cases gk_hb P a_holder (g * W + i) <;> simp
        · simp [ei]
      have hcnt : gk_cn (gk_ib P a_holder a_idled) ((g + 1) * W) = gk_cn (gk_ib P a_holder a_idled) (g * W) + gk_cn (bt (lH g &&& lI g)) 16 := by
        rw [Nat.add_mul, Nat.one_mul, gk_cn_add]
        congr 1
        have e1 : gk_cn (bt (lH g &&& lI g)) 16 = gk_cn (fun i => decide (i < W) && gk_ib P a_holder a_idled (g * W + i)) 16 := gk_cn_c (fun i hi => hgone i (by omega))
        rw [e1, gk_cn_cut (n := W) (fun i hi => by rw [decide_eq_false (by omega), Bool.false_and]) 16 (by omega)]
        exact gk_cn_c (fun i hi => by rw [decide_eq_true hi, Bool.true_and])
      have hstep : ∀ q, q < P → gk_hb P (gk_hol P W a_holder a_idled (g + 1)) q = (gk_hb P (gk_hol P W a_holder a_idled g) q && !(decide (q / W = g) && bt (lH g &&& lI g) (q % W))) := by
        intro q hq
        rw [gk_hol_hb hq, gk_hol_hb hq]
        have hm : q % W < W := Nat.mod_lt _ (by omega)
        rw [hgone (q % W) (by omega), decide_eq_true hm, Bool.true_and]
        by_cases eg : q / W = g
        · have : g * W + q % W = q := by rw [← eg]; exact gk_pq (by omega)
          rw [this]
          simp [eg]
        · have : (decide (q / W < g + 1)) = decide (q / W < g) := decide_eq_decide.mpr (by omega)
          rw [this]
          simp [eg]
      refine br_f (nI_ge hlt (by omega)) ⟨hin, hin, nm_r (e' := lH g &&& lI g) (by rw [c]) ?_⟩
      by_cases z : lH g &&& lI g = 0
      · refine br_t z (nm_r (nI_1 g) ?_)
        have h0 : gk_cn (bt (lH g &&& lI g)) 16 = 0 := by
          rw [z, gk_cn_cut (n := 0) (fun i _ => b_0 i) 16 (by omega)]; rfl
        have hc2 : gk_cn (gk_ib P a_holder a_idled) (g * W) = gk_cn (gk_ib P a_holder a_idled) ((g + 1) * W) := by omega
        rw [hc2]
        refine ih (g + 1) rH lH lI (by omega) (by omega) ?_
        have hb : ∀ q, q < P → gk_hb P (gk_hol P W a_holder a_idled (g + 1)) q = gk_hb P (gk_hol P W a_holder a_idled g) q := by
          intro q hq; rw [hstep q hq, z, b_0]; simp
        exact gk_H_cg hb (fun q hq => by unfold gk_ib; rw [hb q hq]) H
      · refine br_f z (gk_xcnt (nm_r (e' := nI (gk_cn (gk_ib P a_holder a_idled) ((g + 1) * W))) (by rw [nI_add, hcnt]) ?_))
        refine gk_xrg (by omega) (nm_r (nI_1 g) ?_)
        exact ih (g + 1) _ _ _ (by omega) (by omega) (gk_H_rel (by omega) hW H hstep)
theorem gk_xscan {post : Int32 → SX → Prop} (hC : (gk_C P W N R G a_groupOf a_groupBit a_groupStart)) (hH : (gk_H P W f_running f_rootHeld a_leafHeld a_leafIdled a_holder a_idled))
    (K : ∀ rH lH lI, (gk_H P W f_running rH lH lI (gk_hol P W a_holder a_idled G) a_idled) → post (nI (gk_cn (gk_ib P a_holder a_idled) (G * W))) (nI P, nI N, nI R, nI G, f_onlineMask, rH, f_freeNodes, f_head, f_freeSlot, f_queued, f_running, nI C, nI I, f_newestNeed, f_bound, f_boundLeft, f_last, f_digest, a_modeOf, a_depthOf, a_cursorOf, a_notedOf, a_passedOf, a_seenOf, a_groupOf, a_groupBit, a_groupStart, lH, lI, a_stateOf, a_keyOf, a_valueOf, a_linkOf, a_birthsOf, a_reclaimOf, a_recordTicket, a_recordOwner, a_recordKind, a_recordTag, a_recordHops, a_recordNeed, a_recordNext, a_slotOfTicket, a_firstRecord, a_firstWaiting, a_lastRecord, a_ownedCount, a_readyCount)) :
    wpX_scan post (nI P, nI N, nI R, nI G, f_onlineMask, f_rootHeld, f_freeNodes, f_head, f_freeSlot, f_queued, f_running, nI C, nI I, f_newestNeed, f_bound, f_boundLeft, f_last, f_digest, a_modeOf, a_depthOf, a_cursorOf, a_notedOf, a_passedOf, a_seenOf, a_groupOf, a_groupBit, a_groupStart, a_leafHeld, a_leafIdled, a_stateOf, a_keyOf, a_valueOf, a_linkOf, a_birthsOf, a_reclaimOf, a_recordTicket, a_recordOwner, a_recordKind, a_recordTag, a_recordHops, a_recordNeed, a_recordNext, a_slotOfTicket, a_firstRecord, a_firstWaiting, a_lastRecord, a_ownedCount, a_readyCount) := by
  have h0 : (gk_H P W f_running f_rootHeld a_leafHeld a_leafIdled (gk_hol P W a_holder a_idled 0) a_idled) := by
    have hb : ∀ q, q < P → gk_hb P (gk_hol P W a_holder a_idled 0) q = gk_hb P a_holder q := by
      intro q hq; rw [gk_hol_hb hq]; simp
    exact gk_H_cg hb (fun q hq => by unfold gk_ib; rw [hb q hq]) hH
  have hs := gk_xscan_l hC K (G + 1) 0 f_rootHeld a_leafHeld a_leafIdled (by omega) (by omega) h0
  rw [Nat.zero_mul] at hs
  exact ⟨G + 1, hs⟩
theorem gk_yscan_l {post : Int32 → SY → Prop} (hP : P ≤ 8)
    (K : ∀ hd', (∀ q, q < P → hd' q = if gk_ib P a_holder a_idled q then 0 else a_holder q) → post (nI (gk_cn (gk_ib P a_holder a_idled) P)) (nI P, nI W, nI N, nI R, f_running, nI C, nI I, f_bound, f_last, f_digest, a_modeOf, a_depthOf, a_cursor, a_notedOf, a_passedOf, a_seenOf, hd', a_idled, a_stateOf, a_keys, a_values, a_kept, a_birthsOf, a_rTicket, a_rOwner, a_rKind, a_rTag, a_rHops, a_rNeed)) :
    ∀ (n j : Nat) (hd' : Nat → Int32), P - j < n → j ≤ P → (∀ q, q < j → hd' q = if gk_ib P a_holder a_idled q then 0 else a_holder q) → (∀ q, j ≤ q → hd' q = a_holder q) →
    wY_scan_4 post (nI P) (nI W) (nI N) (nI R) f_running (nI C) (nI I) f_bound f_last f_digest n (nI (gk_cn (gk_ib P a_holder a_idled) j)) (nI j) a_modeOf a_depthOf a_cursor a_notedOf a_passedOf a_seenOf hd' a_idled a_stateOf a_keys a_values a_kept a_birthsOf a_rTicket a_rOwner a_rKind a_rTag a_rHops a_rNeed := by
  intro n
  induction n with
  | zero => intro j hd' h; omega
  | succ n ih =>
    intro j hd' hn hj o1 o2
    by_cases e : j = P
    · subst e
      exact br_t (gk_lerf _) (K hd' o1)
    · have hlt : j < P := by omega
      have hin : vp_in (nI j) 8 := vp_in_nI (by omega) (by omega)
      have c : (nI j).toNatClampNeg = j := nI_clamp (by omega)
      have hj' : hd' (nI j).toNatClampNeg = a_holder j := by rw [c]; exact o2 j (by omega)
      refine br_f (nI_ge hlt (by omega)) ⟨hin, ?_⟩
      have stay : gk_ib P a_holder a_idled j = false → wY_scan_4 post (nI P) (nI W) (nI N) (nI R) f_running (nI C) (nI I) f_bound f_last f_digest n (nI (gk_cn (gk_ib P a_holder a_idled) j)) (nI (j + 1)) a_modeOf a_depthOf a_cursor a_notedOf a_passedOf a_seenOf hd' a_idled a_stateOf a_keys a_values a_kept a_birthsOf a_rTicket a_rOwner a_rKind a_rTag a_rHops a_rNeed := by
        intro hf
        have h3 := ih (j + 1) hd' (by omega) (by omega) (fun q hq => by
          by_cases eq : q = j
          · rw [eq, hf, if_neg (by simp)]; exact o2 j (by omega)
          · exact o1 q (by omega)) (fun q hq => o2 q (by omega))
        rw [gk_cn_s, hf, if_neg (by simp), Nat.add_zero] at h3
        exact h3
      by_cases z : a_holder j = 0
      · refine br_t (by rw [hj']; exact z) (nm_r (nI_1 j) (stay ?_))
        unfold gk_ib; rw [(gk_hb_z hlt).mpr z]; rfl
      · refine br_f (by rw [hj']; exact z) ⟨hin, ?_⟩
        by_cases y : a_idled (nI j).toNatClampNeg = 0
        · refine br_t y (nm_r (nI_1 j) (stay ?_))
          rw [c] at y
          unfold gk_ib; rw [y]; simp
        · refine br_f y ⟨hin, nm_r (e' := upd hd' j 0) (by rw [c, gk_vb0]) ?_⟩
          rw [c] at y
          have ht : gk_ib P a_holder a_idled j = true := by
            unfold gk_ib; rw [gk_hb_f hlt]; simp [z, y]
          have h3 := ih (j + 1) (upd hd' j 0) (by omega) (by omega) (fun q hq => by
            by_cases eq : q = j
            · rw [eq, ht, pk_us]; rfl
            · rw [pk_un eq]; exact o1 q (by omega)) (fun q hq => by rw [pk_un (by omega)]; exact o2 q (by omega))
          rw [gk_cn_s, ht, if_pos rfl] at h3
          exact nm_r (nI_1 _) (nm_r (nI_1 j) h3)
end
theorem i_vc_scan {k : Nat} {u : SX} {v : SY} (I : i_Rel k u v) (hk : k + 4 ≤ 2052) : wpX_scan (fun r u' => wpY_scan (fun r' v' => r' = r ∧ i_Rel (k + 4) u' v') v) u := by
  refine gk_el (Pr := fun u v => wpX_scan (fun r u' => wpY_scan (fun r' v' => r' = r ∧ i_Rel (k + 4) u' v') v) u) ?_ I
  intro P W N R G C I RL f_onlineMask f_rootHeld f_freeNodes f_head f_freeSlot f_queued f_running f_newestNeed f_bound f_boundLeft f_last f_digest a_modeOf a_depthOf a_cursorOf a_notedOf a_passedOf a_seenOf a_groupOf a_groupBit a_groupStart a_leafHeld a_leafIdled a_stateOf a_keyOf a_valueOf a_linkOf a_birthsOf a_reclaimOf a_recordTicket a_recordOwner a_recordKind a_recordTag a_recordHops a_recordNeed a_recordNext a_slotOfTicket a_firstRecord a_firstWaiting a_lastRecord a_ownedCount a_readyCount a_cursor a_holder a_idled a_keys a_values a_kept a_rTicket a_rOwner a_rKind a_rTag a_rHops a_rNeed H
  obtain ⟨hk4, hC, hP, hH, hN, hQ⟩ := H
  refine gk_xscan hC hH ?_
  · intro rH lH lI hH'
    refine ⟨P + 1, gk_yscan_l hC.1.2 ?_ (P + 1) 0 a_holder (by omega) (by omega) (fun q hq => absurd hq (by omega)) (fun q _ => rfl)⟩
    intro hd' hd
    have hG := hC.2.2.2.2.1
    refine ⟨by rw [gk_cn_cut (fun q hq => gk_ib_o hq) (G * W) (by omega)], gk_in (RL := RL) ⟨Nat.le_trans hk4 (Nat.le_add_right k 4), hC, hP, ?_, hN, hQ⟩⟩
    have hb : ∀ q, q < P → gk_hb P hd' q = gk_hb P (gk_hol P W a_holder a_idled G) q := by
      intro q hq
      rw [gk_hol_hb hq, gk_hb_f hq, gk_hb_f hq, hd q hq]
      have : q / W < G := by
        rw [Nat.div_lt_iff_lt_mul (by have := hC.2.1; omega)]; omega
      rw [decide_eq_true this, Bool.true_and]
      cases gk_ib P a_holder a_idled q with
      | true => simp
      | false => simp
    exact gk_H_cg hb (fun q hq => by unfold gk_ib; rw [hb q hq]) hH'
end
section
def gk_bh (md : Nat → Int32) (j q : Nat) : Int32 := if decide (q < j) && decide (md q ≠ 0) then 1 else 0
def gk_bi (md : Nat → Int32) (q : Nat) : Int32 := if md q = 2 then 1 else 0
section
variable {k : Nat}
variable {P W N R G C I : Nat} {RL : List gk_Rec}
variable {f_onlineMask f_rootHeld f_freeNodes f_head f_freeSlot f_queued f_running f_newestNeed f_bound f_boundLeft f_last f_digest : Int32}
variable {a_modeOf a_depthOf a_cursorOf a_notedOf a_passedOf a_seenOf a_groupOf a_groupBit a_groupStart a_leafHeld a_leafIdled a_stateOf a_keyOf a_valueOf a_linkOf a_birthsOf a_reclaimOf a_recordTicket a_recordOwner a_recordKind a_recordTag a_recordHops a_recordNeed a_recordNext a_slotOfTicket a_firstRecord a_firstWaiting a_lastRecord a_ownedCount a_readyCount a_cursor a_holder a_idled a_keys a_values a_kept a_rTicket a_rOwner a_rKind a_rTag a_rHops a_rNeed : Nat → Int32}
theorem gk_bh_hb {j q : Nat} (hq : q < P) : gk_hb P (gk_bh a_modeOf j) q = (decide (q < j) && decide (a_modeOf q ≠ 0)) := by
  rw [gk_hb_f hq]
  unfold gk_bh
  cases h : (decide (q < j) && decide (a_modeOf q ≠ 0)) with
  | true => simp
  | false => simp
theorem gk_bi_d (q : Nat) : decide (gk_bi a_modeOf q ≠ 0) = decide (a_modeOf q = 2) := by
  unfold gk_bi
  by_cases h : a_modeOf q = 2
  · rw [if_pos h]; simp [h]
  · rw [if_neg h]; simp [h]
theorem gk_root0 (hC : (gk_C P W N R G a_groupOf a_groupBit a_groupStart)) (H : (gk_H P W f_running f_rootHeld a_leafHeld a_leafIdled a_holder a_idled)) : f_rootHeld = 0 ↔ ∀ p, p < P → a_holder p = 0 := by
  constructor
  · intro e p hp
    obtain ⟨hg, hb, hW, hm⟩ := gk_grpP hC hp
    have h1 := H.2.2.1 (p / W) (by omega)
    rw [e, b_0, decide_eq_true hg, Bool.true_and] at h1
    have h2 : a_leafHeld (p / W) = 0 := by simpa using h1.symm
    have h3 := (gk_hbit hp hC H).1
    rw [h2, b_0] at h3
    exact (gk_hb_z hp).mp h3.symm
  · intro h
    rw [gk_z0]
    intro g hg
    rw [H.2.2.1 g hg]
    by_cases e : g < 4
    · have : a_leafHeld g = 0 := by
        rw [gk_z0]
        intro i hi
        rw [H.1 g e i hi]
        by_cases eq : g * W + i < P
        · rw [(gk_hb_z eq).mpr (h _ eq), Bool.and_false]
        · rw [gk_hb_o (by omega), Bool.and_false]
      simp [this]
    · simp [e]
/-- a processor becomes a holder -/
theorem gk_H_add {p : Nat} {holder' lI' : Nat → Int32} (hp : p < P) (hC : (gk_C P W N R G a_groupOf a_groupBit a_groupStart)) (H : (gk_H P W f_running f_rootHeld a_leafHeld a_leafIdled a_holder a_idled))
    (hh : ∀ q, q < P → gk_hb P holder' q = (gk_hb P a_holder q || decide (q = p))) (hr : f_running ≠ 0)
    (h1 : a_idled p ≠ 0 → lI' = upd a_leafIdled (p / W) (a_leafIdled (p / W) ||| ((1 : Int32) <<< (nI (p % W) &&& 31)))) (h2 : a_idled p = 0 → lI' = a_leafIdled) :
    (gk_H P W f_running (f_rootHeld ||| ((1 : Int32) <<< (nI (p / W) &&& 31))) (upd a_leafHeld (p / W) (a_leafHeld (p / W) ||| ((1 : Int32) <<< (nI (p % W) &&& 31)))) lI' holder' a_idled) := by
  obtain ⟨hg, hb, hW, hm⟩ := gk_grpP hC hp
  have hpp : gk_hb P holder' p = true := by rw [hh p hp]; simp
  have hq : ∀ q, q ≠ p → gk_hb P holder' q = gk_hb P a_holder q := by
    intro q hq
    by_cases e : q < P
    · rw [hh q e]; simp [hq]
    · rw [gk_hb_o (by omega), gk_hb_o (by omega)]
  have add : ∀ (l : Nat → Int32) (f f' : Nat → Bool), (∀ g, g < 4 → ∀ i, i < 32 → bt (l g) i = (decide (i < W) && f (g * W + i))) → f' p = true → (∀ q, q ≠ p → f' q = f q) →
      ∀ g, g < 4 → ∀ i, i < 32 → bt (upd l (p / W) (l (p / W) ||| ((1 : Int32) <<< (nI (p % W) &&& 31))) g) i = (decide (i < W) && f' (g * W + i)) := by
    intro l f f' hl f1 f2 g hg4 i hi
    by_cases e : i < W
    · by_cases eq : g * W + i = p
      · have e1 := (gk_grp (g := g) e).1
        have e2 := (gk_grp (g := g) e).2
        rw [eq] at e1 e2
        rw [eq, e1, e2, pk_us, b_or, gk_b1 (by omega) hi, f1]
        simp [e]
      · rw [f2 _ eq]
        by_cases eg : g = p / W
        · subst eg
          have : i ≠ p % W := by
            intro z; apply eq; rw [z]; exact gk_pq hW
          rw [pk_us, b_or, gk_b1 hb hi, decide_eq_false this, Bool.or_false]
          exact hl _ hg4 i hi
        · rw [pk_un eg]; exact hl _ hg4 i hi
    · rw [decide_eq_false e, Bool.false_and]
      by_cases eg : g = p / W
      · subst eg
        rw [pk_us, b_or, gk_b1 hb hi, hl _ hg4 i hi]
        have : i ≠ p % W := by omega
        simp [e, this]
      · rw [pk_un eg, hl _ hg4 i hi]; simp [e]
  refine ⟨add a_leafHeld (gk_hb P a_holder) (gk_hb P holder') H.1 hpp hq, ?_, ?_, fun z => absurd z hr⟩
  · have hqi : ∀ q, q ≠ p → gk_ib P holder' a_idled q = gk_ib P a_holder a_idled q := by
      intro q h; unfold gk_ib; rw [hq q h]
    by_cases z : a_idled p = 0
    · rw [h2 z]
      intro g hg4 i hi
      rw [H.2.1 g hg4 i hi]
      by_cases eq : g * W + i = p
      · rw [eq]; unfold gk_ib; rw [z]; simp
      · rw [hqi _ eq]
    · rw [h1 z]
      refine add a_leafIdled (gk_ib P a_holder a_idled) (gk_ib P holder' a_idled) H.2.1 ?_ hqi
      unfold gk_ib; rw [hpp, decide_eq_true z]; rfl
  · intro g hg'
    rw [b_or, gk_b1 (by omega) hg', H.2.2.1 g hg']
    by_cases eg : g = p / W
    · subst eg
      rw [pk_us]
      have : ¬ (a_leafHeld (p / W) ||| ((1 : Int32) <<< (nI (p % W) &&& 31))) = 0 := by
        intro z
        have h3 := gk_z0.mp z (p % W) hb
        rw [b_or, gk_b1 hb hb] at h3
        simp at h3
      simp [hg, this]
    · rw [pk_un eg]; simp [eg]
theorem gk_xbegin_l {post : SX → Prop} (hC : (gk_C P W N R G a_groupOf a_groupBit a_groupStart))
    (K : ∀ rH lH lI, (gk_H P W 1 rH lH lI (gk_bh a_modeOf P) (gk_bi a_modeOf)) → post (nI P, nI N, nI R, nI G, f_onlineMask, rH, f_freeNodes, f_head, f_freeSlot, f_queued, 1, nI C, nI I, f_newestNeed, f_bound, f_boundLeft, f_last, f_digest, a_modeOf, a_depthOf, a_cursorOf, a_notedOf, a_passedOf, a_seenOf, a_groupOf, a_groupBit, a_groupStart, lH, lI, a_stateOf, a_keyOf, a_valueOf, a_linkOf, a_birthsOf, a_reclaimOf, a_recordTicket, a_recordOwner, a_recordKind, a_recordTag, a_recordHops, a_recordNeed, a_recordNext, a_slotOfTicket, a_firstRecord, a_firstWaiting, a_lastRecord, a_ownedCount, a_readyCount)) :
    ∀ (n j : Nat) (rH : Int32) (lH lI : Nat → Int32), P - j < n → j ≤ P → (gk_H P W 1 rH lH lI (gk_bh a_modeOf j) (gk_bi a_modeOf)) →
    wX_beginPeriod_7 post (nI P) (nI N) (nI R) (nI G) f_onlineMask f_freeNodes f_head f_freeSlot f_queued 1 (nI C) (nI I) f_newestNeed f_bound f_boundLeft f_last f_digest n (nI j) rH a_modeOf a_depthOf a_cursorOf a_notedOf a_passedOf a_seenOf a_groupOf a_groupBit a_groupStart lH lI a_stateOf a_keyOf a_valueOf a_linkOf a_birthsOf a_reclaimOf a_recordTicket a_recordOwner a_recordKind a_recordTag a_recordHops a_recordNeed a_recordNext a_slotOfTicket a_firstRecord a_firstWaiting a_lastRecord a_ownedCount a_readyCount := by
  intro n
  induction n with
  | zero => intro j rH lH lI h; omega
  | succ n ih =>
    intro j rH lH lI hn hj H
    have hP8 := hC.1.2
    by_cases e : j = P
    · subst e
      exact br_t (gk_lerf _) (K rH lH lI H)
    · have hlt : j < P := by omega
      have hin : vp_in (nI j) 8 := vp_in_nI (by omega) (by omega)
      have c : (nI j).toNatClampNeg = j := nI_clamp (by omega)
      obtain ⟨hg, hb, hW, hm⟩ := gk_grpP hC hlt
      have cg : (nI (j / W)).toNatClampNeg = j / W := nI_clamp (by omega)
      have hig : vp_in (nI (j / W)) 4 := vp_in_nI hg (by omega)
      have g1 := (hC.2.2.2.2.2.1 j hlt).1
      have g2 := (hC.2.2.2.2.2.1 j hlt).2
      refine br_f (nI_ge hlt (by omega)) ⟨hin, ?_⟩
      by_cases z : a_modeOf (nI j).toNatClampNeg = 0
      · refine br_t z (nm_r (nI_1 j) (ih (j + 1) rH lH lI (by omega) (by omega) ?_))
        rw [c] at z
        have hbe : ∀ q, q < P → gk_hb P (gk_bh a_modeOf (j + 1)) q = gk_hb P (gk_bh a_modeOf j) q := by
          intro q hq
          rw [gk_bh_hb hq, gk_bh_hb hq]
          by_cases eq : q = j
          · rw [eq, z]; simp
          · rw [show decide (q < j + 1) = decide (q < j) from decide_eq_decide.mpr (by omega)]
        exact gk_H_cg hbe (fun q hq => by unfold gk_ib; rw [hbe q hq]) H
      · have hbe : ∀ q, q < P → gk_hb P (gk_bh a_modeOf (j + 1)) q = (gk_hb P (gk_bh a_modeOf j) q || decide (q = j)) := by
          intro q hq
          rw [gk_bh_hb hq, gk_bh_hb hq]
          by_cases eq : q = j
          · rw [c] at z; rw [eq]; simp [z]
          · rw [show decide (q < j + 1) = decide (q < j) from decide_eq_decide.mpr (by omega)]; simp [eq]
        refine br_f z ⟨hin, nm_r (e' := nI (j / W)) (by rw [c]; exact g1) ⟨hig, hin, hig, nm_r (e' := upd lH (j / W) (lH (j / W) ||| ((1 : Int32) <<< (nI (j % W) &&& 31)))) (by rw [cg, c, g2]) (nm_e ⟨hin, ?_⟩)⟩⟩
        by_cases y : a_modeOf (nI j).toNatClampNeg = 2
        · refine br_t y ⟨hig, hin, hig, nm_r (e' := upd lI (j / W) (lI (j / W) ||| ((1 : Int32) <<< (nI (j % W) &&& 31)))) (by rw [cg, c, g2]) (nm_r (nI_1 j) (ih (j + 1) _ _ _ (by omega) (by omega) ?_))⟩
          rw [c] at y
          refine gk_H_add hlt hC H hbe (by decide) (fun _ => rfl) ?_
          intro w
          unfold gk_bi at w
          rw [if_pos y] at w
          exact absurd w (by decide)
        · refine br_f y (nm_r (nI_1 j) (ih (j + 1) _ _ _ (by omega) (by omega) ?_))
          rw [c] at y
          refine gk_H_add hlt hC H hbe (by decide) ?_ (fun _ => rfl)
          intro w
          unfold gk_bi at w
          rw [if_neg y] at w
          exact absurd rfl w
theorem gk_xbegin {post : SX → Prop} (hC : (gk_C P W N R G a_groupOf a_groupBit a_groupStart)) (H : (gk_H P W f_running f_rootHeld a_leafHeld a_leafIdled a_holder a_idled)) (hr : f_running = 0)
    (K : ∀ rH lH lI, (gk_H P W 1 rH lH lI (gk_bh a_modeOf P) (gk_bi a_modeOf)) → post (nI P, nI N, nI R, nI G, f_onlineMask, rH, f_freeNodes, f_head, f_freeSlot, f_queued, 1, nI C, nI I, f_newestNeed, f_bound, f_boundLeft, f_last, f_digest, a_modeOf, a_depthOf, a_cursorOf, a_notedOf, a_passedOf, a_seenOf, a_groupOf, a_groupBit, a_groupStart, lH, lI, a_stateOf, a_keyOf, a_valueOf, a_linkOf, a_birthsOf, a_reclaimOf, a_recordTicket, a_recordOwner, a_recordKind, a_recordTag, a_recordHops, a_recordNeed, a_recordNext, a_slotOfTicket, a_firstRecord, a_firstWaiting, a_lastRecord, a_ownedCount, a_readyCount)) :
    wpX_beginPeriod post (nI P, nI N, nI R, nI G, f_onlineMask, f_rootHeld, f_freeNodes, f_head, f_freeSlot, f_queued, f_running, nI C, nI I, f_newestNeed, f_bound, f_boundLeft, f_last, f_digest, a_modeOf, a_depthOf, a_cursorOf, a_notedOf, a_passedOf, a_seenOf, a_groupOf, a_groupBit, a_groupStart, a_leafHeld, a_leafIdled, a_stateOf, a_keyOf, a_valueOf, a_linkOf, a_birthsOf, a_reclaimOf, a_recordTicket, a_recordOwner, a_recordKind, a_recordTag, a_recordHops, a_recordNeed, a_recordNext, a_slotOfTicket, a_firstRecord, a_firstWaiting, a_lastRecord, a_ownedCount, a_readyCount) := by
  refine ⟨P + 1, gk_xbegin_l hC K (P + 1) 0 f_rootHeld a_leafHeld a_leafIdled (by omega) (by omega) ?_⟩
  have h0 := H.2.2.2 hr
  have hbe : ∀ q, q < P → gk_hb P (gk_bh a_modeOf 0) q = gk_hb P a_holder q := by
    intro q hq
    rw [gk_bh_hb hq, (gk_hb_z hq).mpr (h0 q hq)]
    simp
  have h1 := gk_H_cg (holder' := gk_bh a_modeOf 0) (idled' := gk_bi a_modeOf) hbe (fun q hq => by unfold gk_ib; rw [hbe q hq, (gk_hb_z hq).mpr (h0 q hq)]; rfl) H
  exact ⟨h1.1, h1.2.1, h1.2.2.1, fun z => absurd z (by decide)⟩
theorem gk_y106_l {post : Int32 → SY → Prop} (hP : P ≤ 8)
    (K : ∀ hd' id', (∀ q, q < P → (hd' q ≠ 0 ↔ a_modeOf q ≠ 0) ∧ (id' q ≠ 0 ↔ a_modeOf q = 2)) → post 3 (nI P, nI W, nI N, nI R, 1, nI C, nI I, f_bound, f_last, f_digest, a_modeOf, a_depthOf, a_cursor, a_notedOf, a_passedOf, a_seenOf, hd', id', a_stateOf, a_keys, a_values, a_kept, a_birthsOf, a_rTicket, a_rOwner, a_rKind, a_rTag, a_rHops, a_rNeed)) :
    ∀ (n j : Nat) (hd' id' : Nat → Int32), P - j < n → j ≤ P → (∀ q, q < j → (hd' q ≠ 0 ↔ a_modeOf q ≠ 0) ∧ (id' q ≠ 0 ↔ a_modeOf q = 2)) →
    wY_keep_106 post (nI P) (nI W) (nI N) (nI R) 1 (nI C) (nI I) f_bound f_last f_digest n (nI j) a_modeOf a_depthOf a_cursor a_notedOf a_passedOf a_seenOf hd' id' a_stateOf a_keys a_values a_kept a_birthsOf a_rTicket a_rOwner a_rKind a_rTag a_rHops a_rNeed := by
  intro n
  induction n with
  | zero => intro j hd' id' h; omega
  | succ n ih =>
    intro j hd' id' hn hj o
    by_cases e : j = P
    · subst e
      exact br_t (gk_lerf _) (K hd' id' o)
    · have hlt : j < P := by omega
      have hin : vp_in (nI j) 8 := vp_in_nI (by omega) (by omega)
      have c : (nI j).toNatClampNeg = j := nI_clamp (by omega)
      have nxt : ∀ (x y : Int32), (x ≠ 0 ↔ a_modeOf j ≠ 0) → (y ≠ 0 ↔ a_modeOf j = 2) → wY_keep_106 post (nI P) (nI W) (nI N) (nI R) 1 (nI C) (nI I) f_bound f_last f_digest n (nI (j + 1)) a_modeOf a_depthOf a_cursor a_notedOf a_passedOf a_seenOf (upd hd' j x) (upd id' j y) a_stateOf a_keys a_values a_kept a_birthsOf a_rTicket a_rOwner a_rKind a_rTag a_rHops a_rNeed := by
        intro x y hx hy
        refine ih (j + 1) _ _ (by omega) (by omega) ?_
        intro q hq
        by_cases eq : q = j
        · subst eq; rw [pk_us, pk_us]; exact ⟨hx, hy⟩
        · rw [pk_un eq, pk_un eq]; exact o q (by omega)
      have k133 : ∀ (x : Int32), vp_nar .boolean x = x → (x ≠ 0 ↔ a_modeOf j ≠ 0) → wY_keep_133 post (wY_keep_106 post (nI P) (nI W) (nI N) (nI R) 1 (nI C) (nI I) f_bound f_last f_digest n) (nI j) x (nI j) (nI P) (nI W) (nI N) (nI R) 1 (nI C) (nI I) f_bound f_last f_digest a_modeOf a_depthOf a_cursor a_notedOf a_passedOf a_seenOf hd' id' a_stateOf a_keys a_values a_kept a_birthsOf a_rTicket a_rOwner a_rKind a_rTag a_rHops a_rNeed := by
        intro x hv hx
        refine ⟨hin, nm_r (e' := upd hd' j x) (by rw [c, hv]) ⟨hin, ?_⟩⟩
        by_cases y : a_modeOf (nI j).toNatClampNeg = 2
        · refine br_t y ⟨hin, nm_r (e' := upd id' j 1) (by rw [c, gk_vb1]) (nm_r (nI_1 j) (nxt x 1 hx ?_))⟩
          rw [c] at y
          exact ⟨fun _ => y, fun _ => by decide⟩
        · refine br_f y ⟨hin, nm_r (e' := upd id' j 0) (by rw [c, gk_vb0]) (nm_r (nI_1 j) (nxt x 0 hx ?_))⟩
          rw [c] at y
          exact ⟨fun w => absurd rfl w, fun w => absurd w y⟩
      refine br_f (nI_ge hlt (by omega)) ⟨hin, ?_⟩
      by_cases z : a_modeOf (nI j).toNatClampNeg = 0
      · refine br_t z (k133 0 gk_vb0 ?_)
        rw [c] at z
        exact ⟨fun w => absurd rfl w, fun w => absurd z w⟩
      · refine br_f z (k133 1 gk_vb1 ?_)
        rw [c] at z
        exact ⟨fun _ => z, fun _ => by decide⟩
theorem gk_y55_l {post : Int32 → SY → Prop} (hR : R ≤ 24) (w : Prop)
    (hw : w ↔ ∃ i, i < R ∧ a_rTicket i ≠ 0 ∧ ¬ a_rNeed i ≤ nI C)
    (K0 : ¬ w → post 0 (nI P, nI W, nI N, nI R, f_running, nI C, nI I, f_bound, f_last, f_digest, a_modeOf, a_depthOf, a_cursor, a_notedOf, a_passedOf, a_seenOf, a_holder, a_idled, a_stateOf, a_keys, a_values, a_kept, a_birthsOf, a_rTicket, a_rOwner, a_rKind, a_rTag, a_rHops, a_rNeed)) (K1 : w → ∃ n : Nat, wY_keep_106 post (nI P) (nI W) (nI N) (nI R) 1 (nI C) (nI I) f_bound f_last f_digest n 0 a_modeOf a_depthOf a_cursor a_notedOf a_passedOf a_seenOf a_holder a_idled a_stateOf a_keys a_values a_kept a_birthsOf a_rTicket a_rOwner a_rKind a_rTag a_rHops a_rNeed) :
    ∀ (n j : Nat) (x : Int32), R - j < n → j ≤ R → (x = 0 ∨ x = 1) → (x ≠ 0 ↔ ∃ i, i < j ∧ a_rTicket i ≠ 0 ∧ ¬ a_rNeed i ≤ nI C) → wY_keep_55 post (nI P) (nI W) (nI N) (nI R) f_running (nI C) (nI I) f_bound f_last f_digest a_modeOf a_depthOf a_cursor a_notedOf a_passedOf a_seenOf a_holder a_idled a_stateOf a_keys a_values a_kept a_birthsOf a_rTicket a_rOwner a_rKind a_rTag a_rHops a_rNeed n x (nI j) := by
  intro n
  induction n with
  | zero => intro j x h; omega
  | succ n ih =>
    intro j x hn hj hx o
    by_cases e : j = R
    · subst e
      refine br_t (gk_lerf _) ?_
      by_cases z : x = 0
      · exact br_t z (K0 (fun h => (o.mpr (hw.mp h)) z))
      · exact br_f z (K1 (hw.mpr (o.mp z)))
    · have hlt : j < R := by omega
      have hin : vp_in (nI j) 24 := vp_in_nI (by omega) (by omega)
      have c : (nI j).toNatClampNeg = j := nI_clamp (by omega)
      have stay : ¬ (a_rTicket j ≠ 0 ∧ ¬ a_rNeed j ≤ nI C) → wY_keep_55 post (nI P) (nI W) (nI N) (nI R) f_running (nI C) (nI I) f_bound f_last f_digest a_modeOf a_depthOf a_cursor a_notedOf a_passedOf a_seenOf a_holder a_idled a_stateOf a_keys a_values a_kept a_birthsOf a_rTicket a_rOwner a_rKind a_rTag a_rHops a_rNeed n x (nI (j + 1)) := by
        intro h
        refine ih (j + 1) x (by omega) (by omega) hx (o.trans ⟨?_, ?_⟩)
        · rintro ⟨i, h1, h2⟩; exact ⟨i, by omega, h2⟩
        · rintro ⟨i, h1, h2⟩
          have : i ≠ j := fun z => h (z ▸ h2)
          exact ⟨i, by omega, h2⟩
      refine br_f (nI_ge hlt (by omega)) ⟨hin, ?_⟩
      by_cases z : a_rTicket (nI j).toNatClampNeg = 0
      · refine br_t z (nm_r (nI_1 j) (stay ?_))
        rw [c] at z; exact fun h => h.1 z
      · refine br_f z ⟨hin, ?_⟩
        by_cases y : a_rNeed (nI j).toNatClampNeg ≤ nI C
        · refine br_t y (nm_r (nI_1 j) (stay ?_))
          rw [c] at y; exact fun h => h.2 y
        · refine br_f y (nm_r (nI_1 j) (ih (j + 1) 1 (by omega) (by omega) (Or.inr rfl) ⟨fun _ => ?_, fun _ => by decide⟩))
          rw [c] at z y
          exact ⟨j, by omega, z, y⟩
theorem gk_y9_l {post : Int32 → SY → Prop} (hP : P ≤ 8) (K1 : ∀ p, p < P → a_holder p ≠ 0 → post 1 (nI P, nI W, nI N, nI R, f_running, nI C, nI I, f_bound, f_last, f_digest, a_modeOf, a_depthOf, a_cursor, a_notedOf, a_passedOf, a_seenOf, a_holder, a_idled, a_stateOf, a_keys, a_values, a_kept, a_birthsOf, a_rTicket, a_rOwner, a_rKind, a_rTag, a_rHops, a_rNeed)) (K2 : (∀ p, p < P → a_holder p = 0) → post 2 (nI P, nI W, nI N, nI R, 0, nI (C + 1), nI I, f_bound, f_last, f_digest, a_modeOf, a_depthOf, a_cursor, a_notedOf, a_passedOf, a_seenOf, a_holder, a_idled, a_stateOf, a_keys, a_values, a_kept, a_birthsOf, a_rTicket, a_rOwner, a_rKind, a_rTag, a_rHops, a_rNeed)) :
    ∀ (n j : Nat), P - j < n → j ≤ P → (∀ q, q < j → a_holder q = 0) → wY_keep_9 post (nI P) (nI W) (nI N) (nI R) f_running (nI C) (nI I) f_bound f_last f_digest a_modeOf a_depthOf a_cursor a_notedOf a_passedOf a_seenOf a_holder a_idled a_stateOf a_keys a_values a_kept a_birthsOf a_rTicket a_rOwner a_rKind a_rTag a_rHops a_rNeed n (nI j) := by
  intro n
  induction n with
  | zero => intro j h; omega
  | succ n ih =>
    intro j hn hj o
    by_cases e : j = P
    · subst e
      exact br_t (gk_lerf _) (nm_r (nI_1 C) (K2 o))
    · have hlt : j < P := by omega
      have hin : vp_in (nI j) 8 := vp_in_nI (by omega) (by omega)
      have c : (nI j).toNatClampNeg = j := nI_clamp (by omega)
      refine br_f (nI_ge hlt (by omega)) ⟨hin, ?_⟩
      by_cases z : a_holder (nI j).toNatClampNeg = 0
      · refine br_t z (nm_r (nI_1 j) (ih (j + 1) (by omega) (by omega) ?_))
        rw [c] at z
        intro q hq
        by_cases eq : q = j
        · rw [eq]; exact z
        · exact o q (by omega)
      · refine br_f z ?_
        rw [c] at z
        exact K1 j hlt z
end
theorem i_vc_keep {k : Nat} {u : SX} {v : SY} (I : i_Rel k u v) (hk : k + 4 ≤ 2052) : wpX_keep (fun r u' => wpY_keep (fun r' v' => r' = r ∧ i_Rel (k + 4) u' v') v) u := by
  refine gk_el (Pr := fun u v => wpX_keep (fun r u' => wpY_keep (fun r' v' => r' = r ∧ i_Rel (k + 4) u' v') v) u) ?_ I
  intro P W N R G C I RL f_onlineMask f_rootHeld f_freeNodes f_head f_freeSlot f_queued f_running f_newestNeed f_bound f_boundLeft f_last f_digest a_modeOf a_depthOf a_cursorOf a_notedOf a_passedOf a_seenOf a_groupOf a_groupBit a_groupStart a_leafHeld a_leafIdled a_stateOf a_keyOf a_valueOf a_linkOf a_birthsOf a_reclaimOf a_recordTicket a_recordOwner a_recordKind a_recordTag a_recordHops a_recordNeed a_recordNext a_slotOfTicket a_firstRecord a_firstWaiting a_lastRecord a_ownedCount a_readyCount a_cursor a_holder a_idled a_keys a_values a_kept a_rTicket a_rOwner a_rKind a_rTag a_rHops a_rNeed H
  have H0 := H
  obtain ⟨hk4, hC, hP, hH, hN, qA, qB, qC, qD, qS, qY, qN⟩ := H
  have hR := hC.2.2.2.1.2
  have hP8 := hC.1.2
  by_cases z : f_running = 0
  · have hw : (nI C < f_newestNeed) ↔ ∃ i, i < R ∧ a_rTicket i ≠ 0 ∧ ¬ a_rNeed i ≤ nI C := by
      constructor
      · intro h
        obtain ⟨r, hr, e⟩ := qA.2.2.1 h
        obtain ⟨i, hi, hf⟩ := gk_yl_mem.mp (qY.mem_iff.mpr hr)
        by_cases t : a_rTicket i = 0
        · rw [gk_f_n t] at hf; simp at hf
        · rw [gk_f_s t] at hf
          refine ⟨i, hi, t, gk_nle.mpr ?_⟩
          have h3 : a_rNeed i = f_newestNeed := by
            rw [← e, ← Option.some.inj hf]; rfl
          rw [h3]; exact h
      · rintro ⟨i, hi, t, h⟩
        have hr : (gk_d a_rTicket a_rOwner a_rKind a_rTag a_rHops a_rNeed) i ∈ RL := qY.mem_iff.mp (gk_yl_mem.mpr ⟨i, hi, gk_f_s t⟩)
        exact gk_ltle (gk_nle.mp h) (qA.2.1 _ hr).2.2.2.1
    refine br_t z ?_
    by_cases y : f_newestNeed ≤ nI C
    · refine br_t y (br_t z ⟨R + 1, gk_y55_l hR _ hw (fun _ => ⟨rfl, gk_in (gk_up4 H0)⟩) (fun h => absurd h (gk_nlt.mpr y)) (R + 1) 0 0 (by omega) (by omega) (Or.inl rfl) ⟨fun h => absurd rfl h, fun ⟨i, h, _⟩ => absurd h (by omega)⟩⟩)
    · refine br_f y (gk_xbegin hC hH z ?_)
      intro rH lH lI hH'
      refine br_t z ⟨R + 1, gk_y55_l hR _ hw (fun h => absurd (gk_nle.mp y) h) (fun _ => ⟨P + 1, ?_⟩) (R + 1) 0 0 (by omega) (by omega) (Or.inl rfl) ⟨fun h => absurd rfl h, fun ⟨i, h, _⟩ => absurd h (by omega)⟩⟩
      refine gk_y106_l hP8 ?_ (P + 1) 0 a_holder a_idled (by omega) (by omega) (fun q hq => absurd hq (by omega))
      intro hd' id' hq
      refine ⟨rfl, gk_in (RL := RL) ⟨Nat.le_trans hk4 (Nat.le_add_right k 4), hC, hP, ?_, hN, ?_, qB, qC, qD, qS, qY, qN⟩⟩
      · have hbe : ∀ q, q < P → gk_hb P hd' q = gk_hb P (gk_bh a_modeOf P) q := by
          intro q h
          rw [gk_bh_hb h, gk_hb_f h, decide_eq_true h, Bool.true_and]
          exact decide_eq_decide.mpr (hq q h).1
        refine gk_H_cg hbe (fun q h => ?_) hH'
        unfold gk_ib
        rw [hbe q h, gk_bi_d]
        congr 1
        exact decide_eq_decide.mpr (hq q h).2
      · obtain ⟨a1, a2, a3, a4, a5, a6⟩ := qA
        exact ⟨a1, a2, a3, a4, fun h => absurd h (by decide), a6⟩
  · refine br_f z ?_
    by_cases y : f_rootHeld = 0
    · have h0 := (gk_root0 hC hH).mp y
      refine br_t y (nm_r (nI_1 C) (br_f z ⟨P + 1, gk_y9_l hP8 (fun p hp h => absurd (h0 p hp) h) (fun _ => ⟨rfl, gk_in (RL := RL) ?_⟩) (P + 1) 0 (by omega) (by omega) (fun q hq => absurd hq (by omega))⟩))
      obtain ⟨a1, a2, a3, a4, a5, a6⟩ := qA
      have hCC : nI C ≤ nI (C + 1) := nI_le (by omega) (by omega)
      refine ⟨by omega, hC, ⟨hP.1, hP.2.1, fun p hp => gk_let (hP.2.2 p hp) hCC⟩, ⟨hH.1, hH.2.1, hH.2.2.1, fun _ => h0⟩, hN, ⟨a1, a2, fun h => a3 (gk_lelt hCC h), gk_let a4 (nI_le (by omega) (by omega)), fun _ => a4, a6⟩, qB, qC, qD, qS, qY, qN⟩
    · refine br_f y (br_f z ⟨P + 1, gk_y9_l hP8 (fun p hp h => ⟨rfl, gk_in (gk_up4 H0)⟩) (fun h => absurd ((gk_root0 hC hH).mpr h) y) (P + 1) 0 (by omega) (by omega) (fun q hq => absurd hq (by omega))⟩)
end
section
def gk_BS (S : Nat → Prop) (ky : Nat → Int32) (j : Nat) (best : Int32) : Prop :=
  (best = -1 ∧ ∀ m, m < j → ¬ S m) ∨ (∃ b, best = nI b ∧ b < j ∧ S b ∧ ∀ m, m < j → S m → ky b ≤ ky m)
theorem gk_BS_keep {S : Nat → Prop} {ky : Nat → Int32} {j : Nat} {best : Int32} (H : gk_BS S ky j best) (h : ¬ S j) : gk_BS S ky (j + 1) best := by
  rcases H with ⟨e, H⟩ | ⟨b, e, h1, h2, h3⟩
  · refine Or.inl ⟨e, fun m hm => ?_⟩
    by_cases z : m = j
    · rw [z]; exact h
    · exact H m (by omega)
  · refine Or.inr ⟨b, e, by omega, h2, fun m hm hL => ?_⟩
    have z : m ≠ j := fun z => h (z ▸ hL)
    exact h3 m (by omega) hL
theorem gk_BS_first {S : Nat → Prop} {ky : Nat → Int32} {j : Nat} (H : ∀ m, m < j → ¬ S m) (h : S j) : gk_BS S ky (j + 1) (nI j) := by
  refine Or.inr ⟨j, rfl, by omega, h, fun m hm hL => ?_⟩
  have : m = j := by
    by_cases z : m = j
    · exact z
    · exact absurd hL (H m (by omega))
  rw [this]; exact gk_lerf _
theorem gk_BS_le {S : Nat → Prop} {ky : Nat → Int32} {j b : Nat} (h1 : b < j) (h2 : S b) (h3 : ∀ m, m < j → S m → ky b ≤ ky m) (h : ky b ≤ ky j) : gk_BS S ky (j + 1) (nI b) := by
  refine Or.inr ⟨b, rfl, by omega, h2, fun m hm hL => ?_⟩
  by_cases z : m = j
  · rw [z]; exact h
  · exact h3 m (by omega) hL
theorem gk_BS_gt {S : Nat → Prop} {ky : Nat → Int32} {j b : Nat} (hj : S j) (h3 : ∀ m, m < j → S m → ky b ≤ ky m) (h : ¬ ky b ≤ ky j) : gk_BS S ky (j + 1) (nI j) := by
  refine Or.inr ⟨j, rfl, by omega, hj, fun m hm hL => ?_⟩
  by_cases z : m = j
  · rw [z]; exact gk_lerf _
  · have := h3 m (by omega) hL
    rw [Int32.le_iff_toInt_le] at *
    omega
section
variable {k : Nat}
variable {P W N R G C I : Nat} {RL : List gk_Rec}
variable {f_onlineMask f_rootHeld f_freeNodes f_head f_freeSlot f_queued f_running f_newestNeed f_bound f_boundLeft f_last f_digest : Int32}
variable {a_modeOf a_depthOf a_cursorOf a_notedOf a_passedOf a_seenOf a_groupOf a_groupBit a_groupStart a_leafHeld a_leafIdled a_stateOf a_keyOf a_valueOf a_linkOf a_birthsOf a_reclaimOf a_recordTicket a_recordOwner a_recordKind a_recordTag a_recordHops a_recordNeed a_recordNext a_slotOfTicket a_firstRecord a_firstWaiting a_lastRecord a_ownedCount a_readyCount a_cursor a_holder a_idled a_keys a_values a_kept a_rTicket a_rOwner a_rKind a_rTag a_rHops a_rNeed : Nat → Int32}
/-- Y's test of a slot -/
theorem gk_yready {post : Int32 → Prop} {i : Nat} (hP : P ≤ 8) (hi : i < 24) (ho : a_rTicket i ≠ 0 → ∃ q, q < P ∧ a_rOwner i = nI q)
    (h1 : ∀ q, q < P → a_rTicket i ≠ 0 → a_rOwner i = nI q → a_rNeed i ≤ a_seenOf q → post 1)
    (h0 : ¬ (a_rTicket i ≠ 0 ∧ ∃ q, q < P ∧ a_rOwner i = nI q ∧ a_rNeed i ≤ a_seenOf q) → post 0) : wpY_ready post (nI P, nI W, nI N, nI R, f_running, nI C, nI I, f_bound, f_last, f_digest, a_modeOf, a_depthOf, a_cursor, a_notedOf, a_passedOf, a_seenOf, a_holder, a_idled, a_stateOf, a_keys, a_values, a_kept, a_birthsOf, a_rTicket, a_rOwner, a_rKind, a_rTag, a_rHops, a_rNeed) (nI i) := by
  have hin : vp_in (nI i) 24 := vp_in_nI hi (by omega)
  have c : (nI i).toNatClampNeg = i := nI_clamp (by omega)
  refine ⟨hin, ?_⟩
  by_cases z : a_rTicket (nI i).toNatClampNeg = 0
  · refine br_t z (h0 ?_)
    rw [c] at z; exact fun h => h.1 z
  · refine br_f z ?_
    rw [c] at z
    obtain ⟨q, hq, e⟩ := ho z
    have cq : (nI q).toNatClampNeg = q := nI_clamp (by omega)
    rw [c, e, cq]
    refine ⟨hin, hin, vp_in_nI (by omega) (by omega), ?_⟩
    by_cases y : a_seenOf q < a_rNeed i
    · refine br_t y (h0 ?_)
      rintro ⟨_, q', hq', e', y'⟩
      have := gk_inj (e.symm.trans e') (by omega) (by omega)
      subst this
      exact gk_nlt.mpr y' y
    · exact br_f y (h1 q hq z e (gk_nlt.mp y))
theorem gk_y39_l {post : Int32 → SY → Prop} {J : Int32 → Int32 → Int32 → Int32 → Int32 → Int32 → Int32 → Int32 → Int32 → Int32 → Int32 → Int32 → (Nat → Int32) → (Nat → Int32) → (Nat → Int32) → (Nat → Int32) → (Nat → Int32) → (Nat → Int32) → (Nat → Int32) → (Nat → Int32) → (Nat → Int32) → (Nat → Int32) → (Nat → Int32) → (Nat → Int32) → (Nat → Int32) → (Nat → Int32) → (Nat → Int32) → (Nat → Int32) → (Nat → Int32) → (Nat → Int32) → (Nat → Int32) → Prop} {lim x4 x5 : Int32} {p : Nat} (hp : p < P) (hP : P ≤ 8) (hR : R ≤ 24) (ho : ∀ i, i < R → a_rTicket i ≠ 0 → ∃ q, q < P ∧ a_rOwner i = nI q)
    (K1 : ∀ b n, b < R → (a_rTicket b ≠ 0 ∧ a_rOwner b = nI p ∧ a_rNeed b ≤ a_seenOf p) → (∀ m, m < R → (a_rTicket m ≠ 0 ∧ a_rOwner m = nI p ∧ a_rNeed m ≤ a_seenOf p) → a_rTicket b ≤ a_rTicket m) → wY_run_39 post J (nI p) lim x4 x5 (nI P) (nI W) (nI N) (nI R) f_running (nI C) (nI I) f_bound f_last f_digest a_modeOf a_depthOf a_cursor a_notedOf a_passedOf a_seenOf a_holder a_idled a_stateOf a_keys a_values a_kept a_birthsOf a_rTicket a_rOwner a_rKind a_rTag a_rHops a_rNeed (n + 1) (nI b) (nI R))
    (K0 : ∀ n, (∀ m, m < R → ¬ (a_rTicket m ≠ 0 ∧ a_rOwner m = nI p ∧ a_rNeed m ≤ a_seenOf p)) → wY_run_39 post J (nI p) lim x4 x5 (nI P) (nI W) (nI N) (nI R) f_running (nI C) (nI I) f_bound f_last f_digest a_modeOf a_depthOf a_cursor a_notedOf a_passedOf a_seenOf a_holder a_idled a_stateOf a_keys a_values a_kept a_birthsOf a_rTicket a_rOwner a_rKind a_rTag a_rHops a_rNeed (n + 1) (-1) (nI R)) :
    ∀ n j best, R - j < n → j ≤ R → gk_BS (fun i => a_rTicket i ≠ 0 ∧ a_rOwner i = nI p ∧ a_rNeed i ≤ a_seenOf p) a_rTicket j best → wY_run_39 post J (nI p) lim x4 x5 (nI P) (nI W) (nI N) (nI R) f_running (nI C) (nI I) f_bound f_last f_digest a_modeOf a_depthOf a_cursor a_notedOf a_passedOf a_seenOf a_holder a_idled a_stateOf a_keys a_values a_kept a_birthsOf a_rTicket a_rOwner a_rKind a_rTag a_rHops a_rNeed n best (nI j) := by
  intro n
  induction n with
  | zero => intro j best h; omega
  | succ n ih =>
    intro j best hn hj H
    by_cases e : j = R
    · subst e
      rcases H with ⟨e1, H⟩ | ⟨b, e1, h1, h2, h3⟩
      · rw [e1]; exact K0 n H
      · rw [e1]; exact K1 b n h1 h2 h3
    · have hlt : j < R := by omega
      have hin : vp_in (nI j) 24 := vp_in_nI (by omega) (by omega)
      have c : (nI j).toNatClampNeg = j := nI_clamp (by omega)
      refine br_f (nI_ge hlt (by omega)) (gk_yready hP (by omega) (ho j hlt) ?_ ?_)
      · intro q hq t eo hs
        refine br_f (by decide) ⟨hin, ?_⟩
        by_cases z : a_rOwner (nI j).toNatClampNeg = nI p
        · refine br_t z ?_
          rw [c, eo] at z
          have eq := gk_inj z (by omega) (by omega)
          subst eq
          have hS : a_rTicket j ≠ 0 ∧ a_rOwner j = nI q ∧ a_rNeed j ≤ a_seenOf q := ⟨t, eo, hs⟩
          rcases H with ⟨e1, H⟩ | ⟨b, e1, h1, h2, h3⟩
          · rw [e1]
            exact br_t gk_m1lt (nm_r (nI_1 j) (ih (j + 1) _ (by omega) (by omega) (gk_BS_first H hS)))
          · rw [e1]
            have cb : (nI b).toNatClampNeg = b := nI_clamp (by omega)
            refine br_f (nI_pos (by omega)) ⟨hin, vp_in_nI (by omega) (by omega), ?_⟩
            by_cases y : a_rTicket (nI b).toNatClampNeg ≤ a_rTicket (nI j).toNatClampNeg
            · refine br_t y (nm_r (nI_1 j) ?_)
              rw [c, cb] at y
              exact ih (j + 1) _ (by omega) (by omega) (gk_BS_le h1 h2 h3 y)
            · refine br_f y (nm_r (nI_1 j) ?_)
              rw [c, cb] at y
              exact ih (j + 1) _ (by omega) (by omega) (gk_BS_gt hS h3 y)
        · refine br_f z (nm_r (nI_1 j) ?_)
          rw [c] at z
          exact ih (j + 1) _ (by omega) (by omega) (gk_BS_keep H (fun h => z h.2.1))
      · intro hno
        refine br_t rfl (nm_r (nI_1 j) (ih (j + 1) _ (by omega) (by omega) (gk_BS_keep H ?_)))
        intro h
        exact hno ⟨h.1, p, hp, h.2.1, h.2.2⟩
/-- Y's queueing at the lowest empty slot i -/
theorem gk_yqueue_at {post : Int32 → SY → Prop} {o kind tag hops : Int32} {i : Nat} (hR : R ≤ 24) (hi : i < R) (hz : a_rTicket i = 0) (hmin : ∀ j, j < i → a_rTicket j ≠ 0)
    (K : post (nI (I + 1)) (nI P, nI W, nI N, nI R, f_running, nI C, nI (I + 1), f_bound, f_last, f_digest, a_modeOf, a_depthOf, a_cursor, a_notedOf, a_passedOf, a_seenOf, a_holder, a_idled, a_stateOf, a_keys, a_values, a_kept, a_birthsOf, upd a_rTicket i (nI (I + 1)), upd a_rOwner i o, upd a_rKind i kind, upd a_rTag i tag, upd a_rHops i hops, upd a_rNeed i (gk_nn f_running C))) :
    wpY_queue post (nI P, nI W, nI N, nI R, f_running, nI C, nI I, f_bound, f_last, f_digest, a_modeOf, a_depthOf, a_cursor, a_notedOf, a_passedOf, a_seenOf, a_holder, a_idled, a_stateOf, a_keys, a_values, a_kept, a_birthsOf, a_rTicket, a_rOwner, a_rKind, a_rTag, a_rHops, a_rNeed) o kind tag hops := by
  have l : ∀ n j, R - j < n → j ≤ i → wY_queue_3 post o kind tag hops (nI P) (nI W) (nI N) (nI R) f_running (nI C) (nI I) f_bound f_last f_digest a_modeOf a_depthOf a_cursor a_notedOf a_passedOf a_seenOf a_holder a_idled a_stateOf a_keys a_values a_kept a_birthsOf a_rTicket a_rOwner a_rKind a_rTag a_rHops a_rNeed n (nI j) := by
    intro n
    induction n with
    | zero => intro j h; omega
    | succ n ih =>
      intro j hn hj
      have hin : vp_in (nI j) 24 := vp_in_nI (by omega) (by omega)
      have c : (nI j).toNatClampNeg = j := nI_clamp (by omega)
      refine br_f (nI_ge (by omega) (by omega)) ⟨hin, ?_⟩
      by_cases e : j = i
      · subst e
        refine br_t (by rw [c]; exact hz) (nm_r (nI_1 I) ⟨hin, nm_r (e' := upd a_rTicket j (nI (I + 1))) (by rw [c]) ⟨hin, nm_r (e' := upd a_rOwner j o) (by rw [c]) ⟨hin, nm_r (e' := upd a_rKind j kind) (by rw [c]) ⟨hin, nm_r (e' := upd a_rTag j tag) (by rw [c]) ⟨hin, nm_r (e' := upd a_rHops j hops) (by rw [c]) ?_⟩⟩⟩⟩⟩)
        exact gk_yneed ⟨hin, nm_r (e' := upd a_rNeed j (gk_nn f_running C)) (by rw [c]) K⟩
      · exact br_f (by rw [c]; exact hmin j (by omega)) (nm_r (nI_1 j) (ih (j + 1) (by omega) (by omega)))
  exact ⟨R + 1, l (R + 1) 0 (by omega) (by omega)⟩
end
end
section
/-- related, and p (active) has a ready records -/
def gk_RR (k p a R : Nat) (u : SX) (v : SY) : Prop := ∃ P : Nat, ∃ W : Nat, ∃ N : Nat, ∃ G : Nat, ∃ C : Nat, ∃ I : Nat, ∃ RL : List gk_Rec, ∃ f_onlineMask : Int32, ∃ f_rootHeld : Int32, ∃ f_freeNodes : Int32, ∃ f_head : Int32, ∃ f_freeSlot : Int32, ∃ f_queued : Int32, ∃ f_running : Int32, ∃ f_newestNeed : Int32, ∃ f_bound : Int32, ∃ f_boundLeft : Int32, ∃ f_last : Int32, ∃ f_digest : Int32, ∃ a_modeOf : Nat → Int32, ∃ a_depthOf : Nat → Int32, ∃ a_cursorOf : Nat → Int32, ∃ a_notedOf : Nat → Int32, ∃ a_passedOf : Nat → Int32, ∃ a_seenOf : Nat → Int32, ∃ a_groupOf : Nat → Int32, ∃ a_groupBit : Nat → Int32, ∃ a_groupStart : Nat → Int32, ∃ a_leafHeld : Nat → Int32, ∃ a_leafIdled : Nat → Int32, ∃ a_stateOf : Nat → Int32, ∃ a_keyOf : Nat → Int32, ∃ a_valueOf : Nat → Int32, ∃ a_linkOf : Nat → Int32, ∃ a_birthsOf : Nat → Int32, ∃ a_reclaimOf : Nat → Int32, ∃ a_recordTicket : Nat → Int32, ∃ a_recordOwner : Nat → Int32, ∃ a_recordKind : Nat → Int32, ∃ a_recordTag : Nat → Int32, ∃ a_recordHops : Nat → Int32, ∃ a_recordNeed : Nat → Int32, ∃ a_recordNext : Nat → Int32, ∃ a_slotOfTicket : Nat → Int32, ∃ a_firstRecord : Nat → Int32, ∃ a_firstWaiting : Nat → Int32, ∃ a_lastRecord : Nat → Int32, ∃ a_ownedCount : Nat → Int32, ∃ a_readyCount : Nat → Int32, ∃ a_cursor : Nat → Int32, ∃ a_holder : Nat → Int32, ∃ a_idled : Nat → Int32, ∃ a_keys : Nat → Int32, ∃ a_values : Nat → Int32, ∃ a_kept : Nat → Int32, ∃ a_rTicket : Nat → Int32, ∃ a_rOwner : Nat → Int32, ∃ a_rKind : Nat → Int32, ∃ a_rTag : Nat → Int32, ∃ a_rHops : Nat → Int32, ∃ a_rNeed : Nat → Int32, u = (nI P, nI N, nI R, nI G, f_onlineMask, f_rootHeld, f_freeNodes, f_head, f_freeSlot, f_queued, f_running, nI C, nI I, f_newestNeed, f_bound, f_boundLeft, f_last, f_digest, a_modeOf, a_depthOf, a_cursorOf, a_notedOf, a_passedOf, a_seenOf, a_groupOf, a_groupBit, a_groupStart, a_leafHeld, a_leafIdled, a_stateOf, a_keyOf, a_valueOf, a_linkOf, a_birthsOf, a_reclaimOf, a_recordTicket, a_recordOwner, a_recordKind, a_recordTag, a_recordHops, a_recordNeed, a_recordNext, a_slotOfTicket, a_firstRecord, a_firstWaiting, a_lastRecord, a_ownedCount, a_readyCount) ∧ v = (nI P, nI W, nI N, nI R, f_running, nI C, nI I, f_bound, f_last, f_digest, a_modeOf, a_depthOf, a_cursor, a_notedOf, a_passedOf, a_seenOf, a_holder, a_idled, a_stateOf, a_keys, a_values, a_kept, a_birthsOf, a_rTicket, a_rOwner, a_rKind, a_rTag, a_rHops, a_rNeed) ∧ ((gk_ALL k P W N R G a_groupOf a_groupBit a_groupStart C f_onlineMask a_modeOf a_cursorOf a_seenOf a_cursor f_running f_rootHeld a_leafHeld a_leafIdled a_holder a_idled f_freeNodes f_head a_stateOf a_keyOf a_valueOf a_linkOf a_reclaimOf a_keys a_values a_kept I f_newestNeed RL a_recordTicket a_recordOwner a_recordKind a_recordTag a_recordHops a_recordNeed a_recordNext a_slotOfTicket a_firstRecord a_firstWaiting a_lastRecord a_ownedCount a_readyCount f_freeSlot f_queued f_bound f_boundLeft a_rTicket a_rOwner a_rKind a_rTag a_rHops a_rNeed) ∧ p < P ∧ a_modeOf p ≠ 0 ∧ a_readyCount p = nI a)
theorem gk_elR {k p a R : Nat} {u : SX} {v : SY} {Pr : SX → SY → Prop} (h : ∀ (P : Nat) (W : Nat) (N : Nat) (G : Nat) (C : Nat) (I : Nat) (RL : List gk_Rec) (f_onlineMask : Int32) (f_rootHeld : Int32) (f_freeNodes : Int32) (f_head : Int32) (f_freeSlot : Int32) (f_queued : Int32) (f_running : Int32) (f_newestNeed : Int32) (f_bound : Int32) (f_boundLeft : Int32) (f_last : Int32) (f_digest : Int32) (a_modeOf : Nat → Int32) (a_depthOf : Nat → Int32) (a_cursorOf : Nat → Int32) (a_notedOf : Nat → Int32) (a_passedOf : Nat → Int32) (a_seenOf : Nat → Int32) (a_groupOf : Nat → Int32) (a_groupBit : Nat → Int32) (a_groupStart : Nat → Int32) (a_leafHeld : Nat → Int32) (a_leafIdled : Nat → Int32) (a_stateOf : Nat → Int32) (a_keyOf : Nat → Int32) (a_valueOf : Nat → Int32) (a_linkOf : Nat → Int32) (a_birthsOf : Nat → Int32) (a_reclaimOf : Nat → Int32) (a_recordTicket : Nat → Int32) (a_recordOwner : Nat → Int32) (a_recordKind : Nat → Int32) (a_recordTag : Nat → Int32) (a_recordHops : Nat → Int32) (a_recordNeed : Nat → Int32) (a_recordNext : Nat → Int32) (a_slotOfTicket : Nat → Int32) (a_firstRecord : Nat → Int32) (a_firstWaiting : Nat → Int32) (a_lastRecord : Nat → Int32) (a_ownedCount : Nat → Int32) (a_readyCount : Nat → Int32) (a_cursor : Nat → Int32) (a_holder : Nat → Int32) (a_idled : Nat → Int32) (a_keys : Nat → Int32) (a_values : Nat → Int32) (a_kept : Nat → Int32) (a_rTicket : Nat → Int32) (a_rOwner : Nat → Int32) (a_rKind : Nat → Int32) (a_rTag : Nat → Int32) (a_rHops : Nat → Int32) (a_rNeed : Nat → Int32), ((gk_ALL k P W N R G a_groupOf a_groupBit a_groupStart C f_onlineMask a_modeOf a_cursorOf a_seenOf a_cursor f_running f_rootHeld a_leafHeld a_leafIdled a_holder a_idled f_freeNodes f_head a_stateOf a_keyOf a_valueOf a_linkOf a_reclaimOf a_keys a_values a_kept I f_newestNeed RL a_recordTicket a_recordOwner a_recordKind a_recordTag a_recordHops a_recordNeed a_recordNext a_slotOfTicket a_firstRecord a_firstWaiting a_lastRecord a_ownedCount a_readyCount f_freeSlot f_queued f_bound f_boundLeft a_rTicket a_rOwner a_rKind a_rTag a_rHops a_rNeed) ∧ p < P ∧ a_modeOf p ≠ 0 ∧ a_readyCount p = nI a) → Pr (nI P, nI N, nI R, nI G, f_onlineMask, f_rootHeld, f_freeNodes, f_head, f_freeSlot, f_queued, f_running, nI C, nI I, f_newestNeed, f_bound, f_boundLeft, f_last, f_digest, a_modeOf, a_depthOf, a_cursorOf, a_notedOf, a_passedOf, a_seenOf, a_groupOf, a_groupBit, a_groupStart, a_leafHeld, a_leafIdled, a_stateOf, a_keyOf, a_valueOf, a_linkOf, a_birthsOf, a_reclaimOf, a_recordTicket, a_recordOwner, a_recordKind, a_recordTag, a_recordHops, a_recordNeed, a_recordNext, a_slotOfTicket, a_firstRecord, a_firstWaiting, a_lastRecord, a_ownedCount, a_readyCount) (nI P, nI W, nI N, nI R, f_running, nI C, nI I, f_bound, f_last, f_digest, a_modeOf, a_depthOf, a_cursor, a_notedOf, a_passedOf, a_seenOf, a_holder, a_idled, a_stateOf, a_keys, a_values, a_kept, a_birthsOf, a_rTicket, a_rOwner, a_rKind, a_rTag, a_rHops, a_rNeed)) (I0 : gk_RR k p a R u v) : Pr u v :=
  Exists.elim I0 fun P I0 => Exists.elim I0 fun W I0 => Exists.elim I0 fun N I0 => Exists.elim I0 fun G I0 => Exists.elim I0 fun C I0 => Exists.elim I0 fun I I0 => Exists.elim I0 fun RL I0 => Exists.elim I0 fun f_onlineMask I0 => Exists.elim I0 fun f_rootHeld I0 => Exists.elim I0 fun f_freeNodes I0 => Exists.elim I0 fun f_head I0 => Exists.elim I0 fun f_freeSlot I0 => Exists.elim I0 fun f_queued I0 => Exists.elim I0 fun f_running I0 => Exists.elim I0 fun f_newestNeed I0 => Exists.elim I0 fun f_bound I0 => Exists.elim I0 fun f_boundLeft I0 => Exists.elim I0 fun f_last I0 => Exists.elim I0 fun f_digest I0 => Exists.elim I0 fun a_modeOf I0 => Exists.elim I0 fun a_depthOf I0 => Exists.elim I0 fun a_cursorOf I0 => Exists.elim I0 fun a_notedOf I0 => Exists.elim I0 fun a_passedOf I0 => Exists.elim I0 fun a_seenOf I0 => Exists.elim I0 fun a_groupOf I0 => Exists.elim I0 fun a_groupBit I0 => Exists.elim I0 fun a_groupStart I0 => Exists.elim I0 fun a_leafHeld I0 => Exists.elim I0 fun a_leafIdled I0 => Exists.elim I0 fun a_stateOf I0 => Exists.elim I0 fun a_keyOf I0 => Exists.elim I0 fun a_valueOf I0 => Exists.elim I0 fun a_linkOf I0 => Exists.elim I0 fun a_birthsOf I0 => Exists.elim I0 fun a_reclaimOf I0 => Exists.elim I0 fun a_recordTicket I0 => Exists.elim I0 fun a_recordOwner I0 => Exists.elim I0 fun a_recordKind I0 => Exists.elim I0 fun a_recordTag I0 => Exists.elim I0 fun a_recordHops I0 => Exists.elim I0 fun a_recordNeed I0 => Exists.elim I0 fun a_recordNext I0 => Exists.elim I0 fun a_slotOfTicket I0 => Exists.elim I0 fun a_firstRecord I0 => Exists.elim I0 fun a_firstWaiting I0 => Exists.elim I0 fun a_lastRecord I0 => Exists.elim I0 fun a_ownedCount I0 => Exists.elim I0 fun a_readyCount I0 => Exists.elim I0 fun a_cursor I0 => Exists.elim I0 fun a_holder I0 => Exists.elim I0 fun a_idled I0 => Exists.elim I0 fun a_keys I0 => Exists.elim I0 fun a_values I0 => Exists.elim I0 fun a_kept I0 => Exists.elim I0 fun a_rTicket I0 => Exists.elim I0 fun a_rOwner I0 => Exists.elim I0 fun a_rKind I0 => Exists.elim I0 fun a_rTag I0 => Exists.elim I0 fun a_rHops I0 => Exists.elim I0 fun a_rNeed I0 => I0.1 ▸ I0.2.1 ▸ h P W N G C I RL f_onlineMask f_rootHeld f_freeNodes f_head f_freeSlot f_queued f_running f_newestNeed f_bound f_boundLeft f_last f_digest a_modeOf a_depthOf a_cursorOf a_notedOf a_passedOf a_seenOf a_groupOf a_groupBit a_groupStart a_leafHeld a_leafIdled a_stateOf a_keyOf a_valueOf a_linkOf a_birthsOf a_reclaimOf a_recordTicket a_recordOwner a_recordKind a_recordTag a_recordHops a_recordNeed a_recordNext a_slotOfTicket a_firstRecord a_firstWaiting a_lastRecord a_ownedCount a_readyCount a_cursor a_holder a_idled a_keys a_values a_kept a_rTicket a_rOwner a_rKind a_rTag a_rHops a_rNeed I0.2.2
def gk_W18 (post : Int32 → SY → Prop) (p : Nat) (lim : Int32) (n c : Nat) (v : SY) : Prop := match v with
  | (f_procs, f_width, f_nodes, f_slots, f_running, f_completed, f_issued, f_bound, f_lastRun, f_digest, a_mode, a_depth, a_cursor, a_noted, a_passed, a_seen, a_holder, a_idled, a_state, a_keys, a_values, a_kept, a_births, a_rTicket, a_rOwner, a_rKind, a_rTag, a_rHops, a_rNeed) => wY_run_18 post (nI p) lim n (nI c) (nI c) f_procs f_width f_nodes f_slots f_running f_completed f_issued f_bound f_lastRun f_digest a_mode a_depth a_cursor a_noted a_passed a_seen a_holder a_idled a_state a_keys a_values a_kept a_births a_rTicket a_rOwner a_rKind a_rTag a_rHops a_rNeed
def gk_W39 (post : Int32 → SY → Prop) (p : Nat) (lim : Int32) (n c : Nat) (v : SY) : Prop := match v with
  | (f_procs, f_width, f_nodes, f_slots, f_running, f_completed, f_issued, f_bound, f_lastRun, f_digest, a_mode, a_depth, a_cursor, a_noted, a_passed, a_seen, a_holder, a_idled, a_state, a_keys, a_values, a_kept, a_births, a_rTicket, a_rOwner, a_rKind, a_rTag, a_rHops, a_rNeed) => ∃ n39 : Nat, wY_run_39 post (wY_run_18 post (nI p) lim n) (nI p) lim (nI c) (nI c) f_procs f_width f_nodes f_slots f_running f_completed f_issued f_bound f_lastRun f_digest a_mode a_depth a_cursor a_noted a_passed a_seen a_holder a_idled a_state a_keys a_values a_kept a_births a_rTicket a_rOwner a_rKind a_rTag a_rHops a_rNeed n39 (-1) 0
section
variable {k p a : Nat}
variable {P W N R G C I : Nat} {RL : List gk_Rec}
variable {f_onlineMask f_rootHeld f_freeNodes f_head f_freeSlot f_queued f_running f_newestNeed f_bound f_boundLeft f_last f_digest : Int32}
variable {a_modeOf a_depthOf a_cursorOf a_notedOf a_passedOf a_seenOf a_groupOf a_groupBit a_groupStart a_leafHeld a_leafIdled a_stateOf a_keyOf a_valueOf a_linkOf a_birthsOf a_reclaimOf a_recordTicket a_recordOwner a_recordKind a_recordTag a_recordHops a_recordNeed a_recordNext a_slotOfTicket a_firstRecord a_firstWaiting a_lastRecord a_ownedCount a_readyCount a_cursor a_holder a_idled a_keys a_values a_kept a_rTicket a_rOwner a_rKind a_rTag a_rHops a_rNeed : Nat → Int32}
theorem gk_inR (H : (gk_ALL k P W N R G a_groupOf a_groupBit a_groupStart C f_onlineMask a_modeOf a_cursorOf a_seenOf a_cursor f_running f_rootHeld a_leafHeld a_leafIdled a_holder a_idled f_freeNodes f_head a_stateOf a_keyOf a_valueOf a_linkOf a_reclaimOf a_keys a_values a_kept I f_newestNeed RL a_recordTicket a_recordOwner a_recordKind a_recordTag a_recordHops a_recordNeed a_recordNext a_slotOfTicket a_firstRecord a_firstWaiting a_lastRecord a_ownedCount a_readyCount f_freeSlot f_queued f_bound f_boundLeft a_rTicket a_rOwner a_rKind a_rTag a_rHops a_rNeed) ∧ p < P ∧ a_modeOf p ≠ 0 ∧ a_readyCount p = nI a) : gk_RR k p a R (nI P, nI N, nI R, nI G, f_onlineMask, f_rootHeld, f_freeNodes, f_head, f_freeSlot, f_queued, f_running, nI C, nI I, f_newestNeed, f_bound, f_boundLeft, f_last, f_digest, a_modeOf, a_depthOf, a_cursorOf, a_notedOf, a_passedOf, a_seenOf, a_groupOf, a_groupBit, a_groupStart, a_leafHeld, a_leafIdled, a_stateOf, a_keyOf, a_valueOf, a_linkOf, a_birthsOf, a_reclaimOf, a_recordTicket, a_recordOwner, a_recordKind, a_recordTag, a_recordHops, a_recordNeed, a_recordNext, a_slotOfTicket, a_firstRecord, a_firstWaiting, a_lastRecord, a_ownedCount, a_readyCount) (nI P, nI W, nI N, nI R, f_running, nI C, nI I, f_bound, f_last, f_digest, a_modeOf, a_depthOf, a_cursor, a_notedOf, a_passedOf, a_seenOf, a_holder, a_idled, a_stateOf, a_keys, a_values, a_kept, a_birthsOf, a_rTicket, a_rOwner, a_rKind, a_rTag, a_rHops, a_rNeed) :=
  ⟨_, _, _, _, _, _, _, _, _, _, _, _, _, _, _, _, _, _, _, _, _, _, _, _, _, _, _, _, _, _, _, _, _, _, _, _, _, _, _, _, _, _, _, _, _, _, _, _, _, _, _, _, _, _, _, _, _, _, _, _, _, rfl, rfl, H⟩
/-- Y's slots hold each ticket once; and what is left when one goes -/
theorem gk_ytake {b : Nat} {L1 L2 : List gk_Rec} (hb : b < R) (ht : a_rTicket b ≠ 0) (H : (gk_QY R a_rTicket a_rOwner a_rKind a_rTag a_rHops a_rNeed (L1 ++ (gk_d a_rTicket a_rOwner a_rKind a_rTag a_rHops a_rNeed) b :: L2))) : (gk_QY R (upd a_rTicket b 0) a_rOwner a_rKind a_rTag a_rHops a_rNeed (L1 ++ L2)) := by
  have h1 := gk_yl_ins (f := gk_f (upd a_rTicket b 0) a_rOwner a_rKind a_rTag a_rHops a_rNeed) (g := (gk_f a_rTicket a_rOwner a_rKind a_rTag a_rHops a_rNeed)) (r := (gk_d a_rTicket a_rOwner a_rKind a_rTag a_rHops a_rNeed) b) hb (gk_f_n pk_us) (gk_f_s ht) (by
    intro j hj; unfold gk_f gk_d; rw [pk_un hj])
  have h2 : (gk_yl (gk_f a_rTicket a_rOwner a_rKind a_rTag a_rHops a_rNeed) R).Perm ((gk_d a_rTicket a_rOwner a_rKind a_rTag a_rHops a_rNeed) b :: (L1 ++ L2)) := List.Perm.trans H List.perm_middle
  exact (h1.symm.trans h2).cons_inv
theorem gk_yuniq {i j : Nat} (hpw : RL.Pairwise gk_lt) (H : (gk_QY R a_rTicket a_rOwner a_rKind a_rTag a_rHops a_rNeed RL)) (hi : i < R) (hj : j < R) (ti : a_rTicket i ≠ 0) (tj : a_rTicket j ≠ 0) (e : a_rTicket i = a_rTicket j) : i = j := by
  refine Classical.byContradiction fun hne => ?_
  have m1 : (gk_d a_rTicket a_rOwner a_rKind a_rTag a_rHops a_rNeed) i ∈ RL := H.mem_iff.mp (gk_yl_mem.mpr ⟨i, hi, gk_f_s ti⟩)
  obtain ⟨L1, L2, eL⟩ := List.append_of_mem m1
  rw [eL] at hpw
  have h1 := gk_ytake (b := i) hi ti (by rw [← eL]; exact H)
  have h2 : (gk_d a_rTicket a_rOwner a_rKind a_rTag a_rHops a_rNeed) j ∈ L1 ++ L2 := by
    refine h1.mem_iff.mp (gk_yl_mem.mpr ⟨j, hj, ?_⟩)
    have : j ≠ i := fun z => hne z.symm
    rw [gk_f_s (by rw [pk_un this]; exact tj)]
    unfold gk_d
    rw [pk_un this]
  exact (gk_pw_mid hpw).2 _ h2 e.symm
/-- Y finds the record of the first slot s of p's list -/
theorem gk_ybest {s : Nat} {A B : List Nat} (hp : p < P) (hP : P ≤ 8) (hR : R ≤ 24) (qA : (gk_QA P C I f_running f_newestNeed a_modeOf RL)) (qY : (gk_QY R a_rTicket a_rOwner a_rKind a_rTag a_rHops a_rNeed RL))
    (HL : gk_QL R RL (gk_d a_recordTicket a_recordOwner a_recordKind a_recordTag a_recordHops a_recordNeed) a_recordNext a_slotOfTicket (a_seenOf p) (a_firstRecord p) (a_firstWaiting p) (a_lastRecord p) (a_ownedCount p) (a_readyCount p) p (s :: A) B) :
    ∃ b, b < R ∧ a_rTicket b ≠ 0 ∧ (gk_d a_rTicket a_rOwner a_rKind a_rTag a_rHops a_rNeed) b = (gk_d a_recordTicket a_recordOwner a_recordKind a_recordTag a_recordHops a_recordNeed) s ∧ ∀ (post : Int32 → SY → Prop) (J : Int32 → Int32 → Int32 → Int32 → Int32 → Int32 → Int32 → Int32 → Int32 → Int32 → Int32 → Int32 → (Nat → Int32) → (Nat → Int32) → (Nat → Int32) → (Nat → Int32) → (Nat → Int32) → (Nat → Int32) → (Nat → Int32) → (Nat → Int32) → (Nat → Int32) → (Nat → Int32) → (Nat → Int32) → (Nat → Int32) → (Nat → Int32) → (Nat → Int32) → (Nat → Int32) → (Nat → Int32) → (Nat → Int32) → (Nat → Int32) → (Nat → Int32) → Prop) (lim x4 x5 : Int32), (∀ n, wY_run_39 post J (nI p) lim x4 x5 (nI P) (nI W) (nI N) (nI R) f_running (nI C) (nI I) f_bound f_last f_digest a_modeOf a_depthOf a_cursor a_notedOf a_passedOf a_seenOf a_holder a_idled a_stateOf a_keys a_values a_kept a_birthsOf a_rTicket a_rOwner a_rKind a_rTag a_rHops a_rNeed (n + 1) (nI b) (nI R)) → ∃ n39 : Nat, wY_run_39 post J (nI p) lim x4 x5 (nI P) (nI W) (nI N) (nI R) f_running (nI C) (nI I) f_bound f_last f_digest a_modeOf a_depthOf a_cursor a_notedOf a_passedOf a_seenOf a_holder a_idled a_stateOf a_keys a_values a_kept a_birthsOf a_rTicket a_rOwner a_rKind a_rTag a_rHops a_rNeed n39 (-1) 0 := by
  have hm := gk_L0_mem HL.1 (s := s) (by simp)
  obtain ⟨b, hb, hf⟩ := gk_yl_mem.mp (qY.mem_iff.mpr hm.1)
  have tb : a_rTicket b ≠ 0 := by
    intro z; rw [gk_f_n z] at hf; simp at hf
  rw [gk_f_s tb] at hf
  have hd : (gk_d a_rTicket a_rOwner a_rKind a_rTag a_rHops a_rNeed) b = (gk_d a_recordTicket a_recordOwner a_recordKind a_recordTag a_recordHops a_recordNeed) s := Option.some.inj hf
  refine ⟨b, hb, tb, hd, ?_⟩
  intro post J lim x4 x5 K
  have mem : ∀ i, i < R → a_rTicket i ≠ 0 → (gk_d a_rTicket a_rOwner a_rKind a_rTag a_rHops a_rNeed) i ∈ RL := fun i hi t => qY.mem_iff.mp (gk_yl_mem.mpr ⟨i, hi, gk_f_s t⟩)
  have ho : ∀ i, i < R → a_rTicket i ≠ 0 → ∃ q, q < P ∧ a_rOwner i = nI q := by
    intro i hi t
    obtain ⟨_, _, _, _, q, h1, _, h2⟩ := qA.2.1 _ (mem i hi t)
    exact ⟨q, h1, h2⟩
  have hSb : a_rTicket b ≠ 0 ∧ a_rOwner b = nI p ∧ a_rNeed b ≤ a_seenOf p := by
    refine ⟨tb, ?_, ?_⟩
    · have : ((gk_d a_rTicket a_rOwner a_rKind a_rTag a_rHops a_rNeed) b).2.1 = nI p := by rw [hd]; exact hm.2
      exact this
    · have : ((gk_d a_rTicket a_rOwner a_rKind a_rTag a_rHops a_rNeed) b).2.2.2.2.2 ≤ a_seenOf p := by rw [hd]; exact HL.2.2.2.1 s (by simp)
      exact this
  refine ⟨R + 1, gk_y39_l hp hP hR ho ?_ ?_ (R + 1) 0 (-1) (by omega) (by omega) (Or.inl ⟨rfl, fun m hm => absurd hm (by omega)⟩)⟩
  · intro b' n hb' hS hmin
    have h1 := hmin b hb hSb
    have hpw : ((s :: (A ++ B)).map (gk_d a_recordTicket a_recordOwner a_recordKind a_recordTag a_recordHops a_recordNeed)).Pairwise gk_lt := by
      have := HL.1.1
      rw [List.cons_append] at this
      rw [this]; exact qA.1.filter _
    have h2 : a_rTicket b ≤ a_rTicket b' := by
      have hm' : (gk_d a_rTicket a_rOwner a_rKind a_rTag a_rHops a_rNeed) b' ∈ (s :: (A ++ B)).map (gk_d a_recordTicket a_recordOwner a_recordKind a_recordTag a_recordHops a_recordNeed) := by
        have := HL.1.1
        rw [List.cons_append] at this
        rw [this, List.mem_filter]
        exact ⟨mem b' hb' hS.1, gk_ow_t hS.2.1⟩
      rw [List.map_cons, List.mem_cons] at hm'
      rw [List.map_cons, List.pairwise_cons] at hpw
      have eb : a_rTicket b = ((gk_d a_recordTicket a_recordOwner a_recordKind a_recordTag a_recordHops a_recordNeed) s).1 := by rw [← hd]; rfl
      rcases hm' with h3 | h3
      · have : a_rTicket b' = ((gk_d a_recordTicket a_recordOwner a_recordKind a_recordTag a_recordHops a_recordNeed) s).1 := by rw [← h3]; rfl
        rw [eb, this]; exact gk_lerf _
      · have h4 := (hpw.1 _ h3).1
        rw [eb, Int32.le_iff_toInt_le]
        rw [Int32.lt_iff_toInt_lt] at h4
        have h5 : ((gk_d a_rTicket a_rOwner a_rKind a_rTag a_rHops a_rNeed) b').1 = a_rTicket b' := rfl
        rw [h5] at h4
        omega
    have := gk_yuniq qA.1 qY hb' hb hS.1 tb (gk_leas h1 h2)
    subst this
    exact K n
  · intro n h
    exact absurd hSb (h b hb)
theorem gk_ynone {post : Int32 → SY → Prop} {J : Int32 → Int32 → Int32 → Int32 → Int32 → Int32 → Int32 → Int32 → Int32 → Int32 → Int32 → Int32 → (Nat → Int32) → (Nat → Int32) → (Nat → Int32) → (Nat → Int32) → (Nat → Int32) → (Nat → Int32) → (Nat → Int32) → (Nat → Int32) → (Nat → Int32) → (Nat → Int32) → (Nat → Int32) → (Nat → Int32) → (Nat → Int32) → (Nat → Int32) → (Nat → Int32) → (Nat → Int32) → (Nat → Int32) → (Nat → Int32) → (Nat → Int32) → Prop} {lim x4 x5 : Int32} {A B : List Nat} (hp : p < P) (hP : P ≤ 8) (hR : R ≤ 24) (qA : (gk_QA P C I f_running f_newestNeed a_modeOf RL)) (qY : (gk_QY R a_rTicket a_rOwner a_rKind a_rTag a_rHops a_rNeed RL))
    (HL : gk_QL R RL (gk_d a_recordTicket a_recordOwner a_recordKind a_recordTag a_recordHops a_recordNeed) a_recordNext a_slotOfTicket (a_seenOf p) (a_firstRecord p) (a_firstWaiting p) (a_lastRecord p) (a_ownedCount p) (a_readyCount p) p A B) (hA : A = [])
    (K : post x4 (nI P, nI W, nI N, nI R, f_running, nI C, nI I, f_bound, f_last, f_digest, a_modeOf, a_depthOf, a_cursor, a_notedOf, a_passedOf, a_seenOf, a_holder, a_idled, a_stateOf, a_keys, a_values, a_kept, a_birthsOf, a_rTicket, a_rOwner, a_rKind, a_rTag, a_rHops, a_rNeed)) : ∃ n39 : Nat, wY_run_39 post J (nI p) lim x4 x5 (nI P) (nI W) (nI N) (nI R) f_running (nI C) (nI I) f_bound f_last f_digest a_modeOf a_depthOf a_cursor a_notedOf a_passedOf a_seenOf a_holder a_idled a_stateOf a_keys a_values a_kept a_birthsOf a_rTicket a_rOwner a_rKind a_rTag a_rHops a_rNeed n39 (-1) 0 := by
  have mem : ∀ i, i < R → a_rTicket i ≠ 0 → (gk_d a_rTicket a_rOwner a_rKind a_rTag a_rHops a_rNeed) i ∈ RL := fun i hi t => qY.mem_iff.mp (gk_yl_mem.mpr ⟨i, hi, gk_f_s t⟩)
  have ho : ∀ i, i < R → a_rTicket i ≠ 0 → ∃ q, q < P ∧ a_rOwner i = nI q := by
    intro i hi t
    obtain ⟨_, _, _, _, q, h1, _, h2⟩ := qA.2.1 _ (mem i hi t)
    exact ⟨q, h1, h2⟩
  have hno : ∀ m, m < R → ¬ (a_rTicket m ≠ 0 ∧ a_rOwner m = nI p ∧ a_rNeed m ≤ a_seenOf p) := by
    rintro m hm ⟨h1, h2, h3⟩
    have hm' : (gk_d a_rTicket a_rOwner a_rKind a_rTag a_rHops a_rNeed) m ∈ (A ++ B).map (gk_d a_recordTicket a_recordOwner a_recordKind a_recordTag a_recordHops a_recordNeed) := by
      rw [HL.1.1, List.mem_filter]
      exact ⟨mem m hm h1, gk_ow_t h2⟩
    rw [hA, List.nil_append] at hm'
    obtain ⟨s, hs, e⟩ := List.mem_map.mp hm'
    have h4 := HL.2.2.2.2 s hs
    rw [e] at h4
    exact gk_nlt.mpr h3 h4
  refine ⟨R + 1, gk_y39_l hp hP hR ho ?_ ?_ (R + 1) 0 (-1) (by omega) (by omega) (Or.inl ⟨rfl, fun m hm => absurd hm (by omega)⟩)⟩
  · intro b' n hb' hS
    exact absurd hS (hno b' hb')
  · intro n _
    exact br_t (gk_lerf _) (br_f gk_0nle K)
end
end
section
section
variable {k p a : Nat}
variable {P W N R G C I : Nat} {RL : List gk_Rec}
variable {f_onlineMask f_rootHeld f_freeNodes f_head f_freeSlot f_queued f_running f_newestNeed f_bound f_boundLeft f_last f_digest : Int32}
variable {a_modeOf a_depthOf a_cursorOf a_notedOf a_passedOf a_seenOf a_groupOf a_groupBit a_groupStart a_leafHeld a_leafIdled a_stateOf a_keyOf a_valueOf a_linkOf a_birthsOf a_reclaimOf a_recordTicket a_recordOwner a_recordKind a_recordTag a_recordHops a_recordNeed a_recordNext a_slotOfTicket a_firstRecord a_firstWaiting a_lastRecord a_ownedCount a_readyCount a_cursor a_holder a_idled a_keys a_values a_kept a_rTicket a_rOwner a_rKind a_rTag a_rHops a_rNeed : Nat → Int32}
/-- the tail of Y's round once the slot b is found -/
theorem gk_ytail {post : Int32 → SY → Prop} {J : Int32 → Int32 → Int32 → Int32 → Int32 → Int32 → Int32 → Int32 → Int32 → Int32 → Int32 → Int32 → (Nat → Int32) → (Nat → Int32) → (Nat → Int32) → (Nat → Int32) → (Nat → Int32) → (Nat → Int32) → (Nat → Int32) → (Nat → Int32) → (Nat → Int32) → (Nat → Int32) → (Nat → Int32) → (Nat → Int32) → (Nat → Int32) → (Nat → Int32) → (Nat → Int32) → (Nat → Int32) → (Nat → Int32) → (Nat → Int32) → (Nat → Int32) → Prop} {lim x4 x5 tk kd tg hp : Int32} {b n : Nat} (hR : R ≤ 24) (hb : b < R)
    (e1 : a_rTicket b = tk) (e2 : a_rKind b = kd) (e3 : a_rTag b = tg) (e4 : a_rHops b = hp)
    (K2 : kd = 2 → (tg < 0 → wY_run_206 post J (nI p) lim x4 x5 kd tg hp (nI P) (nI W) (nI N) (nI R) f_running (nI C) (nI I) f_bound tk ((((f_digest * 31) + tk) * 31) + tg) a_modeOf a_depthOf a_cursor a_notedOf a_passedOf a_seenOf a_holder a_idled a_stateOf a_keys a_values a_kept a_birthsOf (upd a_rTicket b 0) a_rOwner a_rKind a_rTag a_rHops a_rNeed) ∧ (¬ tg < 0 → (nI N ≤ tg → wY_run_206 post J (nI p) lim x4 x5 kd tg hp (nI P) (nI W) (nI N) (nI R) f_running (nI C) (nI I) f_bound tk ((((f_digest * 31) + tk) * 31) + tg) a_modeOf a_depthOf a_cursor a_notedOf a_passedOf a_seenOf a_holder a_idled a_stateOf a_keys a_values a_kept a_birthsOf (upd a_rTicket b 0) a_rOwner a_rKind a_rTag a_rHops a_rNeed) ∧ (¬ nI N ≤ tg → vp_in tg 16 ∧ ∀ st, st = upd a_stateOf tg.toNatClampNeg 0 → wY_run_206 post J (nI p) lim x4 x5 kd tg hp (nI P) (nI W) (nI N) (nI R) f_running (nI C) (nI I) f_bound tk ((((f_digest * 31) + tk) * 31) + tg) a_modeOf a_depthOf a_cursor a_notedOf a_passedOf a_seenOf a_holder a_idled st a_keys a_values a_kept a_birthsOf (upd a_rTicket b 0) a_rOwner a_rKind a_rTag a_rHops a_rNeed)))
    (K1 : ¬ kd = 2 → wY_run_206 post J (nI p) lim x4 x5 kd tg hp (nI P) (nI W) (nI N) (nI R) f_running (nI C) (nI I) f_bound tk ((((f_digest * 31) + tk) * 31) + tg) a_modeOf a_depthOf a_cursor a_notedOf a_passedOf a_seenOf a_holder a_idled a_stateOf a_keys a_values a_kept a_birthsOf (upd a_rTicket b 0) a_rOwner a_rKind a_rTag a_rHops a_rNeed) :
    wY_run_39 post J (nI p) lim x4 x5 (nI P) (nI W) (nI N) (nI R) f_running (nI C) (nI I) f_bound f_last f_digest a_modeOf a_depthOf a_cursor a_notedOf a_passedOf a_seenOf a_holder a_idled a_stateOf a_keys a_values a_kept a_birthsOf a_rTicket a_rOwner a_rKind a_rTag a_rHops a_rNeed (n + 1) (nI b) (nI R) := by
  have hin : vp_in (nI b) 24 := vp_in_nI (by omega) (by omega)
  have c : (nI b).toNatClampNeg = b := nI_clamp (by omega)
  refine br_t (gk_lerf _) (br_t (nI_pos' (by omega)) ⟨hin, nm_r (e' := tk) (by rw [c]; exact e1) ⟨hin, nm_r (e' := kd) (by rw [c]; exact e2) ⟨hin, nm_r (e' := tg) (by rw [c]; exact e3) ⟨hin, nm_r (e' := hp) (by rw [c]; exact e4) ⟨hin, nm_r (e' := upd a_rTicket b 0) (by rw [c]) (nm_e ⟨K2, K1⟩)⟩⟩⟩⟩⟩)
/-- X runs p's first ready record, Y does the same -/
theorem gk_xstep {post : SX → Prop} (hk : k ≤ 2052) (ha : a ≤ 1000) (H : (gk_ALL k P W N R G a_groupOf a_groupBit a_groupStart C f_onlineMask a_modeOf a_cursorOf a_seenOf a_cursor f_running f_rootHeld a_leafHeld a_leafIdled a_holder a_idled f_freeNodes f_head a_stateOf a_keyOf a_valueOf a_linkOf a_reclaimOf a_keys a_values a_kept I f_newestNeed RL a_recordTicket a_recordOwner a_recordKind a_recordTag a_recordHops a_recordNeed a_recordNext a_slotOfTicket a_firstRecord a_firstWaiting a_lastRecord a_ownedCount a_readyCount f_freeSlot f_queued f_bound f_boundLeft a_rTicket a_rOwner a_rKind a_rTag a_rHops a_rNeed)) (hp : p < P) (hm : a_modeOf p ≠ 0) (hr : a_readyCount p = nI (a + 1))
    (K : ∀ u' v', gk_RR k p a R u' v' → (∀ (postY : Int32 → SY → Prop) (lim : Int32) (n c : Nat), gk_W18 postY p lim n (c + 1) v' → gk_W39 postY p lim n c (nI P, nI W, nI N, nI R, f_running, nI C, nI I, f_bound, f_last, f_digest, a_modeOf, a_depthOf, a_cursor, a_notedOf, a_passedOf, a_seenOf, a_holder, a_idled, a_stateOf, a_keys, a_values, a_kept, a_birthsOf, a_rTicket, a_rOwner, a_rKind, a_rTag, a_rHops, a_rNeed)) → post u') :
    wpX_runFirst post (nI P, nI N, nI R, nI G, f_onlineMask, f_rootHeld, f_freeNodes, f_head, f_freeSlot, f_queued, f_running, nI C, nI I, f_newestNeed, f_bound, f_boundLeft, f_last, f_digest, a_modeOf, a_depthOf, a_cursorOf, a_notedOf, a_passedOf, a_seenOf, a_groupOf, a_groupBit, a_groupStart, a_leafHeld, a_leafIdled, a_stateOf, a_keyOf, a_valueOf, a_linkOf, a_birthsOf, a_reclaimOf, a_recordTicket, a_recordOwner, a_recordKind, a_recordTag, a_recordHops, a_recordNeed, a_recordNext, a_slotOfTicket, a_firstRecord, a_firstWaiting, a_lastRecord, a_ownedCount, a_readyCount) (nI p) := by
  obtain ⟨hk4, hC, hP, hH, hN, qA, qB, qC, qD, qS, qY, qN⟩ := H
  have hP8 := hC.1.2
  have hR := hC.2.2.2.1.2
  have hN16 := hC.2.2.1.2
  have hlen := gk_QC_len qC
  obtain ⟨A0, B, HL⟩ := qB p hp
  have hl := gk_L0_len HL.1
  rw [List.length_append] at hl
  have hA0 : A0.length = a + 1 := gk_inj (HL.2.2.1.symm.trans hr) (by omega) (by omega)
  cases A0 with
  | nil => simp at hA0
  | cons s A =>
    have hA : A.length = a := by simpa using hA0
    have hsm := gk_L0_mem HL.1 (s := s) (by simp)
    have hs : s < R := HL.1.2.1 s (by simp)
    have hip : vp_in (nI p) 8 := vp_in_nI (by omega) (by omega)
    have hin : vp_in (nI s) 24 := vp_in_nI (by omega) (by omega)
    have cp : (nI p).toNatClampNeg = p := nI_clamp (by omega)
    have c : (nI s).toNatClampNeg = s := nI_clamp (by omega)
    obtain ⟨b, hb, tb, hd, hbest⟩ := gk_ybest hp hP8 hR qA qY HL
    have e1 : a_rTicket b = a_recordTicket s := congrArg (fun r : gk_Rec => r.1) hd
    have e2 : a_rKind b = a_recordKind s := congrArg (fun r : gk_Rec => r.2.2.1) hd
    have e3 : a_rTag b = a_recordTag s := congrArg (fun r : gk_Rec => r.2.2.2.1) hd
    have e4 : a_rHops b = a_recordHops s := congrArg (fun r : gk_Rec => r.2.2.2.2.1) hd
    have hkd : a_recordKind s = 1 ∨ a_recordKind s = 2 := (qA.2.1 _ hsm.1).2.2.1
    refine ⟨hip, nm_r (e' := nI s) (by rw [cp]; exact HL.1.2.2.2.1) (br_f (gk_ne1 (by omega)) ⟨hin, nm_r (e' := a_recordTicket s) (by rw [c]) ⟨hin, nm_r (e' := a_recordTag s) (by rw [c]) ⟨hin, nm_r (e' := a_recordHops s) (by rw [c]) ⟨hin, ?_⟩⟩⟩⟩)⟩
    by_cases k2 : a_recordKind s = 2
    · obtain ⟨n, hn, htag, hst, hrec⟩ := qN.1 _ hsm.1 k2
      have htag' : a_recordTag s = nI n := htag
      have hinn : vp_in (nI n) 16 := vp_in_nI (by omega) (by omega)
      have cn : (nI n).toNatClampNeg = n := nI_clamp (by omega)
      refine br_t (by rw [c]; exact k2) ?_
      rw [htag']
      refine gk_xtake hp hP8 hR (hP.2.2 p hp) ⟨qA, qB, qC, qD, qS⟩ HL ?_
      intro L1 L2 qd bl fs nx' sot' fr' la' oc' rc' eRL hrc Q
      refine nm_e (br_f (by decide) ?_)
      refine br_f (nI_pos (by omega)) (br_t (nI_lt hn (by omega)) ⟨hinn, nm_r (e' := upd a_stateOf n 0) (by rw [cn]) ⟨hinn, nm_r (e' := upd a_keyOf n 0) (by rw [cn]) ⟨hinn, nm_r (e' := upd a_valueOf n 0) (by rw [cn]) ⟨hinn, nm_r (e' := upd a_linkOf n (-1)) (by rw [cn]) ⟨hinn, nm_r (e' := upd a_reclaimOf n (-1)) (by rw [cn]) (nm_e ?_)⟩⟩⟩⟩⟩)
      rw [eRL] at qA qY qN
      have tne := (gk_pw_mid qA.1).2
      have qY' := gk_ytake (L1 := L1) (L2 := L2) hb tb (by rw [hd]; exact qY)
      refine K _ (nI P, nI W, nI N, nI R, f_running, nI C, nI I, f_bound, a_recordTicket s, (((f_digest * 31) + a_recordTicket s) * 31) + nI n, a_modeOf, a_depthOf, a_cursor, a_notedOf, a_passedOf, a_seenOf, a_holder, a_idled, upd a_stateOf n 0, a_keys, a_values, a_kept, a_birthsOf, upd a_rTicket b 0, a_rOwner, a_rKind, a_rTag, a_rHops, a_rNeed) (gk_inR (RL := L1 ++ L2) ⟨⟨hk4, hC, hP, hH, gk_N_free hN16 hn hst hN, Q.1, Q.2.1, Q.2.2.1, Q.2.2.2.1, Q.2.2.2.2, qY', gk_QN_free hN16 hn k2 htag hrec tne qN⟩, hp, hm, by rw [hrc, hA]⟩) ?_
      intro postY lim m cc h
      refine hbest _ _ _ _ _ (fun n' => gk_ytail hR hb e1 (e2.trans k2) (e3.trans htag') e4 (fun _ => br_f (nI_pos (by omega)) (br_f (nI_ge hn (by omega)) ⟨hinn, nm_r (e' := upd a_stateOf n 0) (by rw [cn]) (br_f (by decide) (nm_r (nI_1 cc) (nm_r (nI_1 cc) h)))⟩)) (fun z => absurd rfl z))
    · have k1 : a_recordKind s = 1 := hkd.resolve_right k2
      refine br_f (by rw [c]; exact k2) ?_
      refine gk_xtake hp hP8 hR (hP.2.2 p hp) ⟨qA, qB, qC, qD, qS⟩ HL ?_
      intro L1 L2 qd bl fs nx' sot' fr' la' oc' rc' eRL hrc Q
      have hl1 : (L1 ++ L2).length + 1 = RL.length := by rw [eRL]; simp; omega
      refine nm_e (br_t rfl ?_)
      rw [eRL] at qA qY qN
      have qY' := gk_ytake (L1 := L1) (L2 := L2) hb tb (by rw [hd]; exact qY)
      have qN' := gk_QN_take1 (r := (gk_d a_recordTicket a_recordOwner a_recordKind a_recordTag a_recordHops a_recordNeed) s) k2 qN
      by_cases z : a_recordHops s ≤ 0
      · refine br_t z ?_
        refine K _ (nI P, nI W, nI N, nI R, f_running, nI C, nI I, f_bound, a_recordTicket s, (((f_digest * 31) + a_recordTicket s) * 31) + a_recordTag s, a_modeOf, a_depthOf, a_cursor, a_notedOf, a_passedOf, a_seenOf, a_holder, a_idled, a_stateOf, a_keys, a_values, a_kept, a_birthsOf, upd a_rTicket b 0, a_rOwner, a_rKind, a_rTag, a_rHops, a_rNeed) (gk_inR (RL := L1 ++ L2) ⟨⟨hk4, hC, hP, hH, hN, Q.1, Q.2.1, Q.2.2.1, Q.2.2.2.1, Q.2.2.2.2, qY', qN'⟩, hp, hm, by rw [hrc, hA]⟩) ?_
        intro postY lim m cc h
        refine hbest _ _ _ _ _ (fun n' => gk_ytail hR hb e1 (e2.trans k1) e3 e4 (fun y => absurd y (by decide)) (fun _ => br_t rfl (br_t z (nm_r (nI_1 cc) (nm_r (nI_1 cc) h)))))
      · refine br_f z ?_
        by_cases y : 30000 ≤ I
        · have y' : (30000 : Int32) ≤ nI I := nI_le (a := 30000) y (by have := qA.2.2.2.2.2; omega)
          refine br_t y' ?_
          refine K _ (nI P, nI W, nI N, nI R, f_running, nI C, nI I, f_bound, a_recordTicket s, (((f_digest * 31) + a_recordTicket s) * 31) + a_recordTag s, a_modeOf, a_depthOf, a_cursor, a_notedOf, a_passedOf, a_seenOf, a_holder, a_idled, a_stateOf, a_keys, a_values, a_kept, a_birthsOf, upd a_rTicket b 0, a_rOwner, a_rKind, a_rTag, a_rHops, a_rNeed) (gk_inR (RL := L1 ++ L2) ⟨⟨hk4, hC, hP, hH, hN, Q.1, Q.2.1, Q.2.2.1, Q.2.2.2.1, Q.2.2.2.2, qY', qN'⟩, hp, hm, by rw [hrc, hA]⟩) ?_
          intro postY lim m cc h
          refine hbest _ _ _ _ _ (fun n' => gk_ytail hR hb e1 (e2.trans k1) e3 e4 (fun y => absurd y (by decide)) (fun _ => br_t rfl (br_f z (br_t y' (nm_r (nI_1 cc) (nm_r (nI_1 cc) h))))))
        · have y' : ¬ (30000 : Int32) ≤ nI I := nI_ge (b := 30000) (by omega) (by omega)
          refine br_f y' ?_
          refine gk_xqueue (RL := L1 ++ L2) (by omega) (by omega) hp hP8 hR hm (Or.inl rfl) (hP.2.2 p hp) (by omega) Q ?_
          intro fs2 qd2 tk2 ow2 kd2 tg2 hp2 nd2 nx2 sot2 fr2 fw2 la2 oc2 Q2
          obtain ⟨i, ⟨hi, hiz⟩, himin⟩ := pk_least (fun i => i < R ∧ upd a_rTicket b 0 i = 0) ⟨b, hb, pk_us⟩
          have himin' : ∀ j, j < i → upd a_rTicket b 0 j ≠ 0 := fun j hj e => himin j hj ⟨by omega, e⟩
          have qY2 : (gk_QY R (upd (upd a_rTicket b 0) i (nI (I + 1))) (upd a_rOwner i (nI p)) (upd a_rKind i 1) (upd a_rTag i (a_recordTag s)) (upd a_rHops i (a_recordHops s - 1)) (upd a_rNeed i (gk_nn f_running C)) ((L1 ++ L2) ++ [(nI (I + 1), nI p, 1, a_recordTag s, a_recordHops s - 1, gk_nn f_running C)])) := by
            have hne : ¬ nI (I + 1) = 0 := nI_ne0 (by omega) (by omega)
            have hpm := gk_yl_ins (f := gk_f (upd a_rTicket b 0) a_rOwner a_rKind a_rTag a_rHops a_rNeed) (g := gk_f (upd (upd a_rTicket b 0) i (nI (I + 1))) (upd a_rOwner i (nI p)) (upd a_rKind i 1) (upd a_rTag i (a_recordTag s)) (upd a_rHops i (a_recordHops s - 1)) (upd a_rNeed i (gk_nn f_running C)))
              (r := (nI (I + 1), nI p, 1, a_recordTag s, a_recordHops s - 1, gk_nn f_running C)) hi (gk_f_n hiz) (by rw [gk_f_s (by rw [pk_us]; exact hne), gk_d_s]) (by intro j hj; unfold gk_f; rw [pk_un hj, gk_d_n hj])
            refine hpm.trans ((qY'.cons _).trans ?_)
            exact (List.perm_append_comm (l₁ := [_]) (l₂ := L1 ++ L2))
          refine K _ (nI P, nI W, nI N, nI R, f_running, nI C, nI (I + 1), f_bound, a_recordTicket s, (((f_digest * 31) + a_recordTicket s) * 31) + a_recordTag s, a_modeOf, a_depthOf, a_cursor, a_notedOf, a_passedOf, a_seenOf, a_holder, a_idled, a_stateOf, a_keys, a_values, a_kept, a_birthsOf, upd (upd a_rTicket b 0) i (nI (I + 1)), upd a_rOwner i (nI p), upd a_rKind i 1, upd a_rTag i (a_recordTag s), upd a_rHops i (a_recordHops s - 1), upd a_rNeed i (gk_nn f_running C))
            (gk_inR (RL := (L1 ++ L2) ++ [(nI (I + 1), nI p, 1, a_recordTag s, a_recordHops s - 1, gk_nn f_running C)]) ⟨⟨hk4, hC, hP, hH, hN, Q2.1, Q2.2.1, Q2.2.2.1, Q2.2.2.2.1, Q2.2.2.2.2, qY2, gk_QN_plain rfl qN'⟩, hp, hm, by rw [hrc, hA]⟩) ?_
          intro postY lim m cc h
          refine hbest _ _ _ _ _ (fun n' => gk_ytail hR hb e1 (e2.trans k1) e3 e4 (fun y => absurd y (by decide)) (fun _ => br_t rfl (br_f z (br_f y' (gk_yqueue_at hR hi hiz himin' (nm_r (nI_1 cc) (nm_r (nI_1 cc) h)))))))
end
end
section
def gk_W38 (post : Int32 → SX → Prop) (p due n i : Nat) (u : SX) : Prop := match u with
  | (f_processorCount, f_nodeCount, f_recordCount, f_groupCount, f_onlineMask, f_rootHeld, f_freeNodes, f_head, f_freeSlot, f_queued, f_running, f_completed, f_issued, f_newestNeed, f_bound, f_boundLeft, f_last, f_digest, a_modeOf, a_depthOf, a_cursorOf, a_notedOf, a_passedOf, a_seenOf, a_groupOf, a_groupBit, a_groupStart, a_leafHeld, a_leafIdled, a_stateOf, a_keyOf, a_valueOf, a_linkOf, a_birthsOf, a_reclaimOf, a_recordTicket, a_recordOwner, a_recordKind, a_recordTag, a_recordHops, a_recordNeed, a_recordNext, a_slotOfTicket, a_firstRecord, a_firstWaiting, a_lastRecord, a_ownedCount, a_readyCount) => wX_run_38 post (nI p) (nI due) n (nI i) f_processorCount f_nodeCount f_recordCount f_groupCount f_onlineMask f_rootHeld f_freeNodes f_head f_freeSlot f_queued f_running f_completed f_issued f_newestNeed f_bound f_boundLeft f_last f_digest a_modeOf a_depthOf a_cursorOf a_notedOf a_passedOf a_seenOf a_groupOf a_groupBit a_groupStart a_leafHeld a_leafIdled a_stateOf a_keyOf a_valueOf a_linkOf a_birthsOf a_reclaimOf a_recordTicket a_recordOwner a_recordKind a_recordTag a_recordHops a_recordNeed a_recordNext a_slotOfTicket a_firstRecord a_firstWaiting a_lastRecord a_ownedCount a_readyCount
theorem gk_xrun_l {post : Int32 → SX → Prop} {k p R due l : Nat} {lim : Int32} (hk : k ≤ 2052) (h1 : due ≤ l) (hlim : lim = nI l) (hl : l < 2 ^ 31) (h2 : due ≤ R) (hR : R ≤ 24) :
    ∀ (d i a : Nat) (u : SX) (v : SY), i + d = due → d ≤ a → a ≤ 1000 → gk_RR k p a R u v →
    (∀ u' v', gk_RR k p (a - d) R u' v' → (∀ (postY : Int32 → SY → Prop) (n : Nat), gk_W18 postY p lim n due v' → gk_W18 postY p lim (n + d) i v) → post (nI due) u') →
    ∀ n, d < n → gk_W38 post p due n i u := by
  intro d
  induction d with
  | zero =>
    intro i a u v hid hda ha H
    refine gk_elR (Pr := fun u v => (∀ u' v', gk_RR k p (a - 0) R u' v' → (∀ (postY : Int32 → SY → Prop) (n : Nat), gk_W18 postY p lim n due v' → gk_W18 postY p lim (n + 0) i v) → post (nI due) u') → ∀ n, 0 < n → gk_W38 post p due n i u) ?_ H
    intro P W N G C I RL f_onlineMask f_rootHeld f_freeNodes f_head f_freeSlot f_queued f_running f_newestNeed f_bound f_boundLeft f_last f_digest a_modeOf a_depthOf a_cursorOf a_notedOf a_passedOf a_seenOf a_groupOf a_groupBit a_groupStart a_leafHeld a_leafIdled a_stateOf a_keyOf a_valueOf a_linkOf a_birthsOf a_reclaimOf a_recordTicket a_recordOwner a_recordKind a_recordTag a_recordHops a_recordNeed a_recordNext a_slotOfTicket a_firstRecord a_firstWaiting a_lastRecord a_ownedCount a_readyCount a_cursor a_holder a_idled a_keys a_values a_kept a_rTicket a_rOwner a_rKind a_rTag a_rHops a_rNeed HH K n hn
    have e : i = due := by omega
    subst e
    cases n with
    | zero => omega
    | succ n => exact br_t (gk_lerf _) (K _ _ (gk_inR HH) (fun postY n h => h))
  | succ d ih =>
    intro i a u v hid hda ha H
    obtain ⟨a', rfl⟩ : ∃ a', a = a' + 1 := ⟨a - 1, by omega⟩
    refine gk_elR (Pr := fun u v => (∀ u' v', gk_RR k p (a' + 1 - (d + 1)) R u' v' → (∀ (postY : Int32 → SY → Prop) (n : Nat), gk_W18 postY p lim n due v' → gk_W18 postY p lim (n + (d + 1)) i v) → post (nI due) u') → ∀ n, d + 1 < n → gk_W38 post p due n i u) ?_ H
    intro P W N G C I RL f_onlineMask f_rootHeld f_freeNodes f_head f_freeSlot f_queued f_running f_newestNeed f_bound f_boundLeft f_last f_digest a_modeOf a_depthOf a_cursorOf a_notedOf a_passedOf a_seenOf a_groupOf a_groupBit a_groupStart a_leafHeld a_leafIdled a_stateOf a_keyOf a_valueOf a_linkOf a_birthsOf a_reclaimOf a_recordTicket a_recordOwner a_recordKind a_recordTag a_recordHops a_recordNeed a_recordNext a_slotOfTicket a_firstRecord a_firstWaiting a_lastRecord a_ownedCount a_readyCount a_cursor a_holder a_idled a_keys a_values a_kept a_rTicket a_rOwner a_rKind a_rTag a_rHops a_rNeed HH K n hn
    cases n with
    | zero => omega
    | succ n =>
      refine br_f (nI_ge (a := i) (b := due) (by omega) (by omega)) (gk_xstep hk (by omega) HH.1 HH.2.1 HH.2.2.1 HH.2.2.2 ?_)
      intro u' v' H' hY
      have h3 := ih (i + 1) a' u' v' (by omega) (by omega) (by omega) H' (fun u'' v'' H'' hW => by
        rw [Nat.add_sub_add_right] at K
        refine K u'' v'' H'' ?_
        intro postY n' h
        have h4 := hW postY n' h
        refine br_f (nI_ge (by omega) (by omega)) (br_f ?_ (hY postY lim (n' + d) i h4))
        rw [hlim]
        exact nI_ge (by omega) hl) n (by omega)
      obtain ⟨y0, y1, y2, y3, y4, y5, y6, y7, y8, y9, y10, y11, y12, y13, y14, y15, y16, y17, y18, y19, y20, y21, y22, y23, y24, y25, y26, y27, y28, y29, y30, y31, y32, y33, y34, y35, y36, y37, y38, y39, y40, y41, y42, y43, y44, y45, y46, y47⟩ := u'
      exact nm_r (nI_1 i) h3
theorem gk_run_fin {k p R due l a : Nat} {lim : Int32} {u : SX} {v : SY} (hlim : lim = nI l) (hl : l < 2 ^ 31) (hd : due = l ∨ (due = a)) (hdl : due ≤ l) (hdR : due ≤ R) (hR : R ≤ 24) (H : gk_RR k p (a - due) R u v) :
    gk_W18 (fun r' v' => r' = nI due ∧ i_Rel (k + 4) u v') p lim 1 due v := by
  refine gk_elR (Pr := fun u v => gk_W18 (fun r' v' => r' = nI due ∧ i_Rel (k + 4) u v') p lim 1 due v) ?_ H
  intro P W N G C I RL f_onlineMask f_rootHeld f_freeNodes f_head f_freeSlot f_queued f_running f_newestNeed f_bound f_boundLeft f_last f_digest a_modeOf a_depthOf a_cursorOf a_notedOf a_passedOf a_seenOf a_groupOf a_groupBit a_groupStart a_leafHeld a_leafIdled a_stateOf a_keyOf a_valueOf a_linkOf a_birthsOf a_reclaimOf a_recordTicket a_recordOwner a_recordKind a_recordTag a_recordHops a_recordNeed a_recordNext a_slotOfTicket a_firstRecord a_firstWaiting a_lastRecord a_ownedCount a_readyCount a_cursor a_holder a_idled a_keys a_values a_kept a_rTicket a_rOwner a_rKind a_rTag a_rHops a_rNeed HH
  have fin : i_Rel (k + 4) (nI P, nI N, nI R, nI G, f_onlineMask, f_rootHeld, f_freeNodes, f_head, f_freeSlot, f_queued, f_running, nI C, nI I, f_newestNeed, f_bound, f_boundLeft, f_last, f_digest, a_modeOf, a_depthOf, a_cursorOf, a_notedOf, a_passedOf, a_seenOf, a_groupOf, a_groupBit, a_groupStart, a_leafHeld, a_leafIdled, a_stateOf, a_keyOf, a_valueOf, a_linkOf, a_birthsOf, a_reclaimOf, a_recordTicket, a_recordOwner, a_recordKind, a_recordTag, a_recordHops, a_recordNeed, a_recordNext, a_slotOfTicket, a_firstRecord, a_firstWaiting, a_lastRecord, a_ownedCount, a_readyCount) (nI P, nI W, nI N, nI R, f_running, nI C, nI I, f_bound, f_last, f_digest, a_modeOf, a_depthOf, a_cursor, a_notedOf, a_passedOf, a_seenOf, a_holder, a_idled, a_stateOf, a_keys, a_values, a_kept, a_birthsOf, a_rTicket, a_rOwner, a_rKind, a_rTag, a_rHops, a_rNeed) := gk_in (gk_up4 HH.1)
  by_cases z : R ≤ due
  · exact br_t (nI_le z (by omega)) ⟨rfl, fin⟩
  · refine br_f (nI_ge (by omega) (by omega)) ?_
    by_cases y : l ≤ due
    · refine br_t ?_ ⟨rfl, fin⟩
      rw [hlim]; exact nI_le y (by omega)
    · refine br_f ?_ ?_
      · rw [hlim]; exact nI_ge (by omega) (by omega)
      · have ea : a - due = 0 := by omega
        obtain ⟨⟨hk4, hC, hP, hH, hN, qA, qB, qC, qD, qS, qY, qN⟩, hp, hm, hr⟩ := HH
        obtain ⟨A, B, HL⟩ := qB p hp
        have hlen := gk_L0_len HL.1
        rw [List.length_append] at hlen
        have := gk_QC_len qC
        have hA : A = [] := by
          rw [ea] at hr
          have := gk_inj (HL.2.2.1.symm.trans hr) (by omega) (by omega)
          exact List.length_eq_zero_iff.mp this
        exact gk_ynone hp hC.1.2 hR qA qY HL hA ⟨rfl, fin⟩
theorem i_vc_run {k : Nat} {u : SX} {v : SY} (I : i_Rel k u v) (hk : k + 4 ≤ 2052) (v1 : Int32) (v2 : Int32) : wpX_run (fun r u' => wpY_run (fun r' v' => r' = r ∧ i_Rel (k + 4) u' v') v v1 v2) u v1 v2 := by
  refine gk_el (Pr := fun u v => wpX_run (fun r u' => wpY_run (fun r' v' => r' = r ∧ i_Rel (k + 4) u' v') v v1 v2) u v1 v2) ?_ I
  intro P W N R G C I RL f_onlineMask f_rootHeld f_freeNodes f_head f_freeSlot f_queued f_running f_newestNeed f_bound f_boundLeft f_last f_digest a_modeOf a_depthOf a_cursorOf a_notedOf a_passedOf a_seenOf a_groupOf a_groupBit a_groupStart a_leafHeld a_leafIdled a_stateOf a_keyOf a_valueOf a_linkOf a_birthsOf a_reclaimOf a_recordTicket a_recordOwner a_recordKind a_recordTag a_recordHops a_recordNeed a_recordNext a_slotOfTicket a_firstRecord a_firstWaiting a_lastRecord a_ownedCount a_readyCount a_cursor a_holder a_idled a_keys a_values a_kept a_rTicket a_rOwner a_rKind a_rTag a_rHops a_rNeed H
  obtain ⟨r, hX, hY, h0⟩ : gk_CK P a_modeOf (nI P, nI N, nI R, nI G, f_onlineMask, f_rootHeld, f_freeNodes, f_head, f_freeSlot, f_queued, f_running, nI C, nI I, f_newestNeed, f_bound, f_boundLeft, f_last, f_digest, a_modeOf, a_depthOf, a_cursorOf, a_notedOf, a_passedOf, a_seenOf, a_groupOf, a_groupBit, a_groupStart, a_leafHeld, a_leafIdled, a_stateOf, a_keyOf, a_valueOf, a_linkOf, a_birthsOf, a_reclaimOf, a_recordTicket, a_recordOwner, a_recordKind, a_recordTag, a_recordHops, a_recordNeed, a_recordNext, a_slotOfTicket, a_firstRecord, a_firstWaiting, a_lastRecord, a_ownedCount, a_readyCount) (nI P, nI W, nI N, nI R, f_running, nI C, nI I, f_bound, f_last, f_digest, a_modeOf, a_depthOf, a_cursor, a_notedOf, a_passedOf, a_seenOf, a_holder, a_idled, a_stateOf, a_keys, a_values, a_kept, a_birthsOf, a_rTicket, a_rOwner, a_rKind, a_rTag, a_rHops, a_rNeed) v1 := gk_ck H.2.1.1.2 v1
  unfold wpX_run
  refine hX _ ?_
  by_cases e : r = 0
  · obtain ⟨p, hp, rfl, hm⟩ := h0 e
    subst e
    have H0 := H
    obtain ⟨hk4, hC, hP, hH, hN, qA, qB, qC, qD, qS, qY, qN⟩ := H
    have hR := hC.2.2.2.1
    have hP8 := hC.1.2
    have cp : (nI p).toNatClampNeg = p := nI_clamp (by omega)
    refine br_t rfl ?_
    by_cases z : 0 < v2
    · obtain ⟨l, hl, rfl⟩ := nI_of (x := v2) (gk_nlt.mpr (by rw [Int32.le_iff_toInt_le]; rw [Int32.lt_iff_toInt_lt] at z; omega))
      obtain ⟨A, B, HL⟩ := qB p hp
      have hlen := gk_L0_len HL.1
      rw [List.length_append] at hlen
      have hlR := gk_QC_len qC
      have hRR : gk_RR k p A.length R (nI P, nI N, nI R, nI G, f_onlineMask, f_rootHeld, f_freeNodes, f_head, f_freeSlot, f_queued, f_running, nI C, nI I, f_newestNeed, f_bound, f_boundLeft, f_last, f_digest, a_modeOf, a_depthOf, a_cursorOf, a_notedOf, a_passedOf, a_seenOf, a_groupOf, a_groupBit, a_groupStart, a_leafHeld, a_leafIdled, a_stateOf, a_keyOf, a_valueOf, a_linkOf, a_birthsOf, a_reclaimOf, a_recordTicket, a_recordOwner, a_recordKind, a_recordTag, a_recordHops, a_recordNeed, a_recordNext, a_slotOfTicket, a_firstRecord, a_firstWaiting, a_lastRecord, a_ownedCount, a_readyCount) (nI P, nI W, nI N, nI R, f_running, nI C, nI I, f_bound, f_last, f_digest, a_modeOf, a_depthOf, a_cursor, a_notedOf, a_passedOf, a_seenOf, a_holder, a_idled, a_stateOf, a_keys, a_values, a_kept, a_birthsOf, a_rTicket, a_rOwner, a_rKind, a_rTag, a_rHops, a_rNeed) := gk_inR ⟨H0, hp, hm, HL.2.2.1⟩
      refine br_t z ⟨vp_in_nI (by omega) (by omega), nm_r (e' := nI A.length) (by rw [cp]; exact HL.2.2.1) ?_⟩
      have main : ∀ due, due ≤ l → due ≤ A.length → (due = l ∨ due = A.length) → ∃ n38 : Nat, wX_run_38 (fun r u' => wpY_run (fun r' v' => r' = r ∧ i_Rel (k + 4) u' v') (nI P, nI W, nI N, nI R, f_running, nI C, nI I, f_bound, f_last, f_digest, a_modeOf, a_depthOf, a_cursor, a_notedOf, a_passedOf, a_seenOf, a_holder, a_idled, a_stateOf, a_keys, a_values, a_kept, a_birthsOf, a_rTicket, a_rOwner, a_rKind, a_rTag, a_rHops, a_rNeed) (nI p) (nI l)) (nI p) (nI due) n38 0 (nI P) (nI N) (nI R) (nI G) f_onlineMask f_rootHeld f_freeNodes f_head f_freeSlot f_queued f_running (nI C) (nI I) f_newestNeed f_bound f_boundLeft f_last f_digest a_modeOf a_depthOf a_cursorOf a_notedOf a_passedOf a_seenOf a_groupOf a_groupBit a_groupStart a_leafHeld a_leafIdled a_stateOf a_keyOf a_valueOf a_linkOf a_birthsOf a_reclaimOf a_recordTicket a_recordOwner a_recordKind a_recordTag a_recordHops a_recordNeed a_recordNext a_slotOfTicket a_firstRecord a_firstWaiting a_lastRecord a_ownedCount a_readyCount := by
        intro due d1 d2 d3
        refine ⟨due + 1, ?_⟩
        have := gk_xrun_l (post := fun r u' => wpY_run (fun r' v' => r' = r ∧ i_Rel (k + 4) u' v') (nI P, nI W, nI N, nI R, f_running, nI C, nI I, f_bound, f_last, f_digest, a_modeOf, a_depthOf, a_cursor, a_notedOf, a_passedOf, a_seenOf, a_holder, a_idled, a_stateOf, a_keys, a_values, a_kept, a_birthsOf, a_rTicket, a_rOwner, a_rKind, a_rTag, a_rHops, a_rNeed) (nI p) (nI l)) (k := k) (lim := nI l) (by omega) d1 rfl hl (by omega) hR.2 due 0 A.length (nI P, nI N, nI R, nI G, f_onlineMask, f_rootHeld, f_freeNodes, f_head, f_freeSlot, f_queued, f_running, nI C, nI I, f_newestNeed, f_bound, f_boundLeft, f_last, f_digest, a_modeOf, a_depthOf, a_cursorOf, a_notedOf, a_passedOf, a_seenOf, a_groupOf, a_groupBit, a_groupStart, a_leafHeld, a_leafIdled, a_stateOf, a_keyOf, a_valueOf, a_linkOf, a_birthsOf, a_reclaimOf, a_recordTicket, a_recordOwner, a_recordKind, a_recordTag, a_recordHops, a_recordNeed, a_recordNext, a_slotOfTicket, a_firstRecord, a_firstWaiting, a_lastRecord, a_ownedCount, a_readyCount) (nI P, nI W, nI N, nI R, f_running, nI C, nI I, f_bound, f_last, f_digest, a_modeOf, a_depthOf, a_cursor, a_notedOf, a_passedOf, a_seenOf, a_holder, a_idled, a_stateOf, a_keys, a_values, a_kept, a_birthsOf, a_rTicket, a_rOwner, a_rKind, a_rTag, a_rHops, a_rNeed) (by omega) d2 (by omega) hRR (fun u' v' H' hW => by
          unfold wpY_run
          refine hY _ (br_t rfl ⟨1 + due, ?_⟩)
          exact hW _ 1 (gk_run_fin rfl hl d3 d1 (by omega) hR.2 H')) (due + 1) (by omega)
        exact this
      by_cases y : A.length ≤ l
      · exact br_t (nI_le y hl) (main A.length y (Nat.le_refl _) (Or.inr rfl))
      · exact br_f (nI_ge (by omega) (by omega)) (main l (Nat.le_refl _) (by omega) (Or.inl rfl))
    · refine br_f z ?_
      unfold wpY_run
      refine hY _ (br_t rfl ⟨1, br_f (nI_ge (a := 0) (by omega) (by omega)) (br_t (gk_nlt.mp z) ⟨rfl, gk_in (gk_up4 H0)⟩)⟩)
  · refine br_f e ?_
    unfold wpY_run
    exact hY _ (br_f e ⟨rfl, gk_in (gk_up4 H)⟩)
end
section
def gk_any (f : Nat → Bool) : Nat → Bool
  | 0 => false
  | n + 1 => gk_any f n || f n
theorem gk_any_i {f : Nat → Bool} {n : Nat} : gk_any f n = true ↔ ∃ i, i < n ∧ f i = true := by
  induction n with
  | zero => simp [gk_any]
  | succ n ih =>
    rw [gk_any, Bool.or_eq_true, ih]
    constructor
    · rintro (⟨i, h1, h2⟩ | h)
      · exact ⟨i, by omega, h2⟩
      · exact ⟨n, by omega, h⟩
    · rintro ⟨i, h1, h2⟩
      by_cases e : i = n
      · rw [← e]; exact Or.inr h2
      · exact Or.inl ⟨i, by omega, h2⟩
section
variable {k : Nat}
variable {P W N R G C I : Nat} {RL : List gk_Rec}
variable {f_onlineMask f_rootHeld f_freeNodes f_head f_freeSlot f_queued f_running f_newestNeed f_bound f_boundLeft f_last f_digest : Int32}
variable {a_modeOf a_depthOf a_cursorOf a_notedOf a_passedOf a_seenOf a_groupOf a_groupBit a_groupStart a_leafHeld a_leafIdled a_stateOf a_keyOf a_valueOf a_linkOf a_birthsOf a_reclaimOf a_recordTicket a_recordOwner a_recordKind a_recordTag a_recordHops a_recordNeed a_recordNext a_slotOfTicket a_firstRecord a_firstWaiting a_lastRecord a_ownedCount a_readyCount a_cursor a_holder a_idled a_keys a_values a_kept a_rTicket a_rOwner a_rKind a_rTag a_rHops a_rNeed : Nat → Int32}
theorem gk_xhm_l {post : Int32 → Prop} (hC : (gk_C P W N R G a_groupOf a_groupBit a_groupStart)) (H : (gk_H P W f_running f_rootHeld a_leafHeld a_leafIdled a_holder a_idled)) (K : ∀ m, (∀ i, i < 32 → bt m i = gk_hb P a_holder i) → post m) :
    ∀ n g m, G - g < n → g ≤ G → (∀ i, i < 32 → bt m i = (decide (i < g * W) && gk_hb P a_holder i)) → wX_holderMask_4 post (nI P) (nI N) (nI R) (nI G) f_onlineMask f_rootHeld f_freeNodes f_head f_freeSlot f_queued f_running (nI C) (nI I) f_newestNeed f_bound f_boundLeft f_last f_digest a_modeOf a_depthOf a_cursorOf a_notedOf a_passedOf a_seenOf a_groupOf a_groupBit a_groupStart a_leafHeld a_leafIdled a_stateOf a_keyOf a_valueOf a_linkOf a_birthsOf a_reclaimOf a_recordTicket a_recordOwner a_recordKind a_recordTag a_recordHops a_recordNeed a_recordNext a_slotOfTicket a_firstRecord a_firstWaiting a_lastRecord a_ownedCount a_readyCount n m (nI g) := by
  obtain ⟨c1, c2, c3, c4, c5, c6, c7⟩ := hC
  intro n
  induction n with
  | zero => intro g m h; omega
  | succ n ih =>
    intro g m hn hg hb
    by_cases e : g = G
    · subst e
      refine br_t (gk_lerf _) (K m ?_)
      intro i hi
      rw [hb i hi]
      by_cases y : i < g * W
      · simp [y]
      · rw [gk_hb_o (by omega)]; simp
    · have hlt : g < G := by omega
      have c : (nI g).toNatClampNeg = g := nI_clamp (by omega)
      have hin : vp_in (nI g) 4 := vp_in_nI (by omega) (by omega)
      have hgW : g * W + W ≤ 16 := by
        have : (g + 1) * W ≤ 4 * 4 := Nat.mul_le_mul (by omega) (by omega)
        rw [Nat.add_mul] at this; omega
      refine br_f (nI_ge hlt (by omega)) ⟨hin, hin, nm_r (e' := m ||| (a_leafHeld g <<< (nI (g * W) &&& 31))) (by rw [c, c7 g hlt]) (nm_r (nI_1 g) (ih (g + 1) _ (by omega) (by omega) ?_))⟩
      intro i hi
      rw [b_or, b_shl (g * W) (by omega) _ hi, hb i hi, Nat.add_mul, Nat.one_mul]
      by_cases y : g * W ≤ i
      · rw [H.1 g (by omega) (i - g * W) (by omega), show g * W + (i - g * W) = i from by omega]
        by_cases w : i < g * W + W
        · have w1 : i - g * W < W := by omega
          have w2 : ¬ i < g * W := by omega
          simp [y, w, w1, w2]
        · have w1 : ¬ i - g * W < W := by omega
          have w2 : ¬ i < g * W := by omega
          simp [w, w1, w2]
      · have w1 : i < g * W := by omega
        have w2 : i < g * W + W := by omega
        simp [y, w1, w2]
theorem gk_xhm {post : Int32 → Prop} (hC : (gk_C P W N R G a_groupOf a_groupBit a_groupStart)) (H : (gk_H P W f_running f_rootHeld a_leafHeld a_leafIdled a_holder a_idled)) (K : ∀ m, (∀ i, i < 32 → bt m i = gk_hb P a_holder i) → post m) : wpX_holderMask post (nI P, nI N, nI R, nI G, f_onlineMask, f_rootHeld, f_freeNodes, f_head, f_freeSlot, f_queued, f_running, nI C, nI I, f_newestNeed, f_bound, f_boundLeft, f_last, f_digest, a_modeOf, a_depthOf, a_cursorOf, a_notedOf, a_passedOf, a_seenOf, a_groupOf, a_groupBit, a_groupStart, a_leafHeld, a_leafIdled, a_stateOf, a_keyOf, a_valueOf, a_linkOf, a_birthsOf, a_reclaimOf, a_recordTicket, a_recordOwner, a_recordKind, a_recordTag, a_recordHops, a_recordNeed, a_recordNext, a_slotOfTicket, a_firstRecord, a_firstWaiting, a_lastRecord, a_ownedCount, a_readyCount) :=
  ⟨G + 1, gk_xhm_l hC H K (G + 1) 0 0 (by omega) (by omega) (fun i hi => by rw [b_0]; simp)⟩
theorem gk_y41_l {post : Int32 → Prop} (hP : P ≤ 8) (K : ∀ m, (∀ i, i < 32 → bt m i = gk_hb P a_holder i) → post m) :
    ∀ n j m, P - j < n → j ≤ P → (∀ i, i < 32 → bt m i = (decide (i < j) && gk_hb P a_holder i)) → wY_whole_41 post (nI P) (nI W) (nI N) (nI R) f_running (nI C) (nI I) f_bound f_last f_digest a_modeOf a_depthOf a_cursor a_notedOf a_passedOf a_seenOf a_holder a_idled a_stateOf a_keys a_values a_kept a_birthsOf a_rTicket a_rOwner a_rKind a_rTag a_rHops a_rNeed n m (nI j) := by
  intro n
  induction n with
  | zero => intro j m h; omega
  | succ n ih =>
    intro j m hn hj hb
    by_cases e : j = P
    · subst e
      refine br_t (gk_lerf _) (K m ?_)
      intro i hi
      rw [hb i hi]
      by_cases y : i < j
      · simp [y]
      · rw [gk_hb_o (by omega)]; simp
    · have hlt : j < P := by omega
      have c : (nI j).toNatClampNeg = j := nI_clamp (by omega)
      refine br_f (nI_ge hlt (by omega)) ⟨vp_in_nI (by omega) (by omega), ?_⟩
      by_cases z : a_holder (nI j).toNatClampNeg = 0
      · refine br_t z (nm_r (nI_1 j) (ih (j + 1) _ (by omega) (by omega) ?_))
        rw [c] at z
        intro i hi
        rw [hb i hi]
        by_cases y : i = j
        · rw [y, (gk_hb_z hlt).mpr z]; simp
        · rw [show decide (i < j + 1) = decide (i < j) from decide_eq_decide.mpr (by omega)]
      · refine br_f z (nm_e (nm_r (nI_1 j) (ih (j + 1) _ (by omega) (by omega) ?_)))
        rw [c] at z
        intro i hi
        rw [b_or, gk_b1 (by omega) hi, hb i hi]
        by_cases y : i = j
        · subst y; rw [gk_hb_f hlt]; simp [z]
        · rw [show decide (i < j + 1) = decide (i < j) from decide_eq_decide.mpr (by omega)]; simp [y]
theorem gk_lh_any (hW : 2 ≤ W ∧ W ≤ 4) (H : (gk_H P W f_running f_rootHeld a_leafHeld a_leafIdled a_holder a_idled)) {g : Nat} (hg : g < 4) : decide (a_leafHeld g ≠ 0) = gk_any (fun i => gk_hb P a_holder (g * W + i)) W := by
  rw [Bool.eq_iff_iff, decide_eq_true_iff, gk_any_i]
  constructor
  · intro h
    refine Classical.byContradiction fun hno => h (gk_z0.mpr ?_)
    intro i hi
    rw [H.1 g hg i hi]
    by_cases e : i < W
    · cases hb : gk_hb P a_holder (g * W + i) with
      | true => exact absurd ⟨i, e, hb⟩ hno
      | false => simp
    · simp [e]
  · rintro ⟨i, h1, h2⟩ z
    have := H.1 g hg i (by omega)
    rw [z, b_0, h2] at this
    simp [h1] at this
theorem gk_y87_l {post : Int32 → Prop} {J : Int32 → Int32 → Prop} {j : Nat} {f : Nat → Bool} (hj : j < 4) (hP : P ≤ 8) (hW : 2 ≤ W ∧ W ≤ 4)
    (K : ∀ m, (∀ g, g < 32 → bt m g = (f g || (decide (g = j) && gk_any (fun i => gk_hb P a_holder (j * W + i)) W))) → J m (nI (j + 1))) :
    ∀ n i m, W - i < n → i ≤ W → (∀ g, g < 32 → bt m g = (f g || (decide (g = j) && gk_any (fun i => gk_hb P a_holder (j * W + i)) i))) → wY_whole_87 post J (nI j) (nI P) (nI W) (nI N) (nI R) f_running (nI C) (nI I) f_bound f_last f_digest a_modeOf a_depthOf a_cursor a_notedOf a_passedOf a_seenOf a_holder a_idled a_stateOf a_keys a_values a_kept a_birthsOf a_rTicket a_rOwner a_rKind a_rTag a_rHops a_rNeed n m (nI i) := by
  intro n
  induction n with
  | zero => intro i m h; omega
  | succ n ih =>
    intro i m hn hi hb
    by_cases e : i = W
    · subst e
      exact br_t (gk_lerf _) (nm_r (nI_1 j) (K m hb))
    · have hlt : i < W := by omega
      have hjW : j * W + W ≤ 16 := by
        have : (j + 1) * W ≤ 4 * 4 := Nat.mul_le_mul (by omega) (by omega)
        rw [Nat.add_mul] at this; omega
      have c : (nI (j * W + i)).toNatClampNeg = j * W + i := nI_clamp (by omega)
      have stay : gk_hb P a_holder (j * W + i) = false → wY_whole_87 post J (nI j) (nI P) (nI W) (nI N) (nI R) f_running (nI C) (nI I) f_bound f_last f_digest a_modeOf a_depthOf a_cursor a_notedOf a_passedOf a_seenOf a_holder a_idled a_stateOf a_keys a_values a_kept a_birthsOf a_rTicket a_rOwner a_rKind a_rTag a_rHops a_rNeed n m (nI (i + 1)) := by
        intro hf
        refine ih (i + 1) m (by omega) (by omega) ?_
        intro g hg
        rw [hb g hg, gk_any, hf, Bool.or_false]
      refine br_f (nI_ge hlt (by omega)) (nm_r (e' := nI (j * W + i)) (by rw [pk_mul, nI_add]) ?_)
      by_cases y : P ≤ j * W + i
      · exact br_t (nI_le y (by omega)) (nm_r (nI_1 i) (stay (gk_hb_o y)))
      · have hq : j * W + i < P := by omega
        refine br_f (nI_ge hq (by omega)) ⟨vp_in_nI (by omega) (by omega), ?_⟩
        by_cases z : a_holder (nI (j * W + i)).toNatClampNeg = 0
        · refine br_t z (nm_r (nI_1 i) (stay ?_))
          rw [c] at z
          exact (gk_hb_z hq).mpr z
        · refine br_f z (nm_e (nm_r (nI_1 i) (ih (i + 1) _ (by omega) (by omega) ?_)))
          rw [c] at z
          intro g hg
          have ht : gk_hb P a_holder (j * W + i) = true := by rw [gk_hb_f hq]; simp [z]
          rw [b_or, gk_b1 (by omega) hg, hb g hg, gk_any, ht, Bool.or_true, Bool.and_true]
          cases f g <;> cases decide (g = j) <;> simp
theorem gk_y79_l {post : Int32 → Prop} (hP : P ≤ 8) (hW : 2 ≤ W ∧ W ≤ 4) (K : ∀ m, (∀ g, g < 32 → bt m g = (decide (g < 4) && gk_any (fun i => gk_hb P a_holder (g * W + i)) W)) → post m) :
    ∀ n j m, 4 - j < n → j ≤ 4 → (∀ g, g < 32 → bt m g = (decide (g < j) && gk_any (fun i => gk_hb P a_holder (g * W + i)) W)) → wY_whole_79 post (nI P) (nI W) (nI N) (nI R) f_running (nI C) (nI I) f_bound f_last f_digest a_modeOf a_depthOf a_cursor a_notedOf a_passedOf a_seenOf a_holder a_idled a_stateOf a_keys a_values a_kept a_birthsOf a_rTicket a_rOwner a_rKind a_rTag a_rHops a_rNeed n m (nI j) := by
  intro n
  induction n with
  | zero => intro j m h; omega
  | succ n ih =>
    intro j m hn hj hb
    by_cases e : j = 4
    · subst e
      exact br_t (gk_lerf _) (K m hb)
    · have hlt : j < 4 := by omega
      refine br_f (nI_ge (b := 4) hlt (by omega)) ⟨W + 1, gk_y87_l (f := fun g => decide (g < j) && gk_any (fun i => gk_hb P a_holder (g * W + i)) W) hlt hP hW ?_ (W + 1) 0 m (by omega) (by omega) ?_⟩
      · intro m' hm
        refine ih (j + 1) m' (by omega) (by omega) ?_
        intro g hg
        rw [hm g hg]
        by_cases y : g = j
        · subst y; simp
        · rw [show decide (g < j + 1) = decide (g < j) from decide_eq_decide.mpr (by omega)]; simp [y]
      · intro g hg
        rw [hb g hg, gk_any, Bool.and_false, Bool.or_false]
theorem gk_y163_l {post : Int32 → Prop} (hR : R ≤ 24) (K : post (nI ((gk_yl (gk_f a_rTicket a_rOwner a_rKind a_rTag a_rHops a_rNeed) R).countP (fun r => decide (r.1 ≤ f_bound))))) :
    ∀ n j, R - j < n → j ≤ R → wY_whole_163 post (nI P) (nI W) (nI N) (nI R) f_running (nI C) (nI I) f_bound f_last f_digest a_modeOf a_depthOf a_cursor a_notedOf a_passedOf a_seenOf a_holder a_idled a_stateOf a_keys a_values a_kept a_birthsOf a_rTicket a_rOwner a_rKind a_rTag a_rHops a_rNeed n (nI ((gk_yl (gk_f a_rTicket a_rOwner a_rKind a_rTag a_rHops a_rNeed) j).countP (fun r => decide (r.1 ≤ f_bound)))) (nI j) := by
  intro n
  induction n with
  | zero => intro j h; omega
  | succ n ih =>
    intro j hn hj
    by_cases e : j = R
    · subst e
      exact br_t (gk_lerf _) K
    · have hlt : j < R := by omega
      have c : (nI j).toNatClampNeg = j := nI_clamp (by omega)
      have hin : vp_in (nI j) 24 := vp_in_nI (by omega) (by omega)
      have h2 := ih (j + 1) (by omega) (by omega)
      rw [gk_yl_ct] at h2
      refine br_f (nI_ge hlt (by omega)) ⟨hin, ?_⟩
      by_cases z : a_rTicket (nI j).toNatClampNeg = 0
      · refine br_t z (nm_r (nI_1 j) ?_)
        rw [c] at z
        rw [gk_f_n z] at h2
        exact h2
      · refine br_f z ⟨hin, ?_⟩
        have z' := z
        rw [c] at z'
        rw [gk_f_s z'] at h2
        dsimp only at h2
        by_cases y : f_bound < a_rTicket (nI j).toNatClampNeg
        · refine br_t y (nm_r (nI_1 j) ?_)
          rw [c] at y
          have : decide (((gk_d a_rTicket a_rOwner a_rKind a_rTag a_rHops a_rNeed) j).1 ≤ f_bound) = false := decide_eq_false (gk_nle.mpr y)
          rw [this, if_neg (by simp)] at h2
          exact h2
        · refine br_f y (nm_r (nI_1 _) (nm_r (nI_1 j) ?_))
          rw [c] at y
          have : decide (((gk_d a_rTicket a_rOwner a_rKind a_rTag a_rHops a_rNeed) j).1 ≤ f_bound) = true := decide_eq_true (gk_nlt.mp y)
          rw [this, if_pos rfl] at h2
          exact h2
theorem gk_y234_l {post : Int32 → Prop} (hN : N ≤ 16) (K : post (nI (gk_cn (fun i => decide (a_stateOf i = 0)) N))) :
    ∀ n j, N - j < n → j ≤ N → wY_whole_234 post (nI P) (nI W) (nI N) (nI R) f_running (nI C) (nI I) f_bound f_last f_digest a_modeOf a_depthOf a_cursor a_notedOf a_passedOf a_seenOf a_holder a_idled a_stateOf a_keys a_values a_kept a_birthsOf a_rTicket a_rOwner a_rKind a_rTag a_rHops a_rNeed n (nI (gk_cn (fun i => decide (a_stateOf i = 0)) j)) (nI j) := by
  intro n
  induction n with
  | zero => intro j h; omega
  | succ n ih =>
    intro j hn hj
    by_cases e : j = N
    · subst e
      exact br_t (gk_lerf _) K
    · have hlt : j < N := by omega
      have c : (nI j).toNatClampNeg = j := nI_clamp (by omega)
      have h2 := ih (j + 1) (by omega) (by omega)
      rw [gk_cn_s] at h2
      refine br_f (nI_ge hlt (by omega)) ⟨vp_in_nI (by omega) (by omega), ?_⟩
      by_cases z : a_stateOf (nI j).toNatClampNeg = 0
      · refine br_t z (nm_r (nI_1 _) (nm_r (nI_1 j) ?_))
        rw [c] at z
        rw [if_pos (decide_eq_true z)] at h2
        exact h2
      · refine br_f z (nm_r (nI_1 j) ?_)
        rw [c] at z
        rw [if_neg (by simp [z])] at h2
        exact h2
theorem gk_y152_8 {post : Int32 → Prop} {p : Nat} (hR : R ≤ 24) (K : post (nI ((gk_yl (gk_f a_rTicket a_rOwner a_rKind a_rTag a_rHops a_rNeed) R).countP (gk_ow p)))) :
    ∀ n j, R - j < n → j ≤ R → wY_processor_152 post (nI p) 8 (nI P) (nI W) (nI N) (nI R) f_running (nI C) (nI I) f_bound f_last f_digest a_modeOf a_depthOf a_cursor a_notedOf a_passedOf a_seenOf a_holder a_idled a_stateOf a_keys a_values a_kept a_birthsOf a_rTicket a_rOwner a_rKind a_rTag a_rHops a_rNeed n (nI ((gk_yl (gk_f a_rTicket a_rOwner a_rKind a_rTag a_rHops a_rNeed) j).countP (gk_ow p))) (nI j) := by
  intro n
  induction n with
  | zero => intro j h; omega
  | succ n ih =>
    intro j hn hj
    by_cases e : j = R
    · subst e
      exact br_t (gk_lerf _) K
    · have hlt : j < R := by omega
      have c : (nI j).toNatClampNeg = j := nI_clamp (by omega)
      have hin : vp_in (nI j) 24 := vp_in_nI (by omega) (by omega)
      have h2 := ih (j + 1) (by omega) (by omega)
      rw [gk_yl_ct] at h2
      refine br_f (nI_ge hlt (by omega)) ⟨hin, ?_⟩
      by_cases z : a_rTicket (nI j).toNatClampNeg = 0
      · refine br_t z (nm_r (nI_1 j) ?_)
        rw [c] at z
        rw [gk_f_n z] at h2
        exact h2
      · refine br_f z ⟨hin, ?_⟩
        have z' := z
        rw [c] at z'
        rw [gk_f_s z'] at h2
        dsimp only at h2
        by_cases y : a_rOwner (nI j).toNatClampNeg = nI p
        · refine br_t y (br_t rfl (nm_r (nI_1 _) (nm_r (nI_1 j) ?_)))
          rw [c] at y
          rw [if_pos (gk_ow_t y)] at h2
          exact h2
        · refine br_f y (nm_r (nI_1 j) ?_)
          rw [c] at y
          rw [if_neg (fun w => y (gk_ow_i.mp w))] at h2
          exact h2
theorem gk_y152_9 {post : Int32 → Prop} {p : Nat} (hp : p < P) (hP : P ≤ 8) (hR : R ≤ 24) (ho : ∀ i, i < R → a_rTicket i ≠ 0 → ∃ q, q < P ∧ a_rOwner i = nI q)
    (K : post (nI ((gk_yl (gk_f a_rTicket a_rOwner a_rKind a_rTag a_rHops a_rNeed) R).countP (fun r => gk_ow p r && decide (r.2.2.2.2.2 ≤ a_seenOf p))))) :
    ∀ n j, R - j < n → j ≤ R → wY_processor_152 post (nI p) 9 (nI P) (nI W) (nI N) (nI R) f_running (nI C) (nI I) f_bound f_last f_digest a_modeOf a_depthOf a_cursor a_notedOf a_passedOf a_seenOf a_holder a_idled a_stateOf a_keys a_values a_kept a_birthsOf a_rTicket a_rOwner a_rKind a_rTag a_rHops a_rNeed n (nI ((gk_yl (gk_f a_rTicket a_rOwner a_rKind a_rTag a_rHops a_rNeed) j).countP (fun r => gk_ow p r && decide (r.2.2.2.2.2 ≤ a_seenOf p)))) (nI j) := by
  intro n
  induction n with
  | zero => intro j h; omega
  | succ n ih =>
    intro j hn hj
    by_cases e : j = R
    · subst e
      exact br_t (gk_lerf _) K
    · have hlt : j < R := by omega
      have c : (nI j).toNatClampNeg = j := nI_clamp (by omega)
      have hin : vp_in (nI j) 24 := vp_in_nI (by omega) (by omega)
      have h2 := ih (j + 1) (by omega) (by omega)
      rw [gk_yl_ct] at h2
      refine br_f (nI_ge hlt (by omega)) ⟨hin, ?_⟩
      by_cases z : a_rTicket (nI j).toNatClampNeg = 0
      · refine br_t z (nm_r (nI_1 j) ?_)
        rw [c] at z
        rw [gk_f_n z] at h2
        exact h2
      · refine br_f z ⟨hin, ?_⟩
        have z' := z
        rw [c] at z'
        rw [gk_f_s z'] at h2
        dsimp only at h2
        by_cases y : a_rOwner (nI j).toNatClampNeg = nI p
        · refine br_t y (br_f (by decide) (gk_yready hP (by omega) (ho j hlt) ?_ ?_))
          · intro q hq _ eo hs
            refine br_f (by decide) (nm_r (nI_1 _) (nm_r (nI_1 j) ?_))
            rw [c] at y
            have eq := gk_inj (eo.symm.trans y) (by omega) (by omega)
            subst eq
            have : (gk_ow q ((gk_d a_rTicket a_rOwner a_rKind a_rTag a_rHops a_rNeed) j) && decide (((gk_d a_rTicket a_rOwner a_rKind a_rTag a_rHops a_rNeed) j).2.2.2.2.2 ≤ a_seenOf q)) = true := by
              rw [gk_ow_t y]; exact decide_eq_true hs
            rw [if_pos this] at h2
            exact h2
          · intro hno
            refine br_t rfl (nm_r (nI_1 j) ?_)
            rw [c] at y
            have : ¬ (gk_ow p ((gk_d a_rTicket a_rOwner a_rKind a_rTag a_rHops a_rNeed) j) && decide (((gk_d a_rTicket a_rOwner a_rKind a_rTag a_rHops a_rNeed) j).2.2.2.2.2 ≤ a_seenOf p)) = true := by
              intro w
              rw [Bool.and_eq_true, decide_eq_true_iff] at w
              exact hno ⟨z', p, hp, y, w.2⟩
            rw [if_neg this] at h2
            exact h2
        · refine br_f y (nm_r (nI_1 j) ?_)
          rw [c] at y
          have : ¬ (gk_ow p ((gk_d a_rTicket a_rOwner a_rKind a_rTag a_rHops a_rNeed) j) && decide (((gk_d a_rTicket a_rOwner a_rKind a_rTag a_rHops a_rNeed) j).2.2.2.2.2 ≤ a_seenOf p)) = true := by
            intro w
            rw [Bool.and_eq_true] at w
            exact y (gk_ow_i.mp w.1)
          rw [if_neg this] at h2
          exact h2
theorem gk_y122_l {post : Int32 → Prop} {x : Int32} (hR : R ≤ 24) (K : ∀ i, i < R → a_rTicket i ≠ 0 → a_rKind i = 2 → a_rTag i = x → post (a_rTicket i)) :
    ∀ n j, R - j < n → j ≤ R → (∃ i, j ≤ i ∧ i < R ∧ a_rTicket i ≠ 0 ∧ a_rKind i = 2 ∧ a_rTag i = x) → wY_node_122 post x (nI P) (nI W) (nI N) (nI R) f_running (nI C) (nI I) f_bound f_last f_digest a_modeOf a_depthOf a_cursor a_notedOf a_passedOf a_seenOf a_holder a_idled a_stateOf a_keys a_values a_kept a_birthsOf a_rTicket a_rOwner a_rKind a_rTag a_rHops a_rNeed n (nI j) := by
  intro n
  induction n with
  | zero => intro j h; omega
  | succ n ih =>
    intro j hn hj hex
    have hlt : j < R := by obtain ⟨i, h1, h2, _⟩ := hex; omega
    have c : (nI j).toNatClampNeg = j := nI_clamp (by omega)
    have hin : vp_in (nI j) 24 := vp_in_nI (by omega) (by omega)
    have stay : ¬ (a_rTicket j ≠ 0 ∧ a_rKind j = 2 ∧ a_rTag j = x) → wY_node_122 post x (nI P) (nI W) (nI N) (nI R) f_running (nI C) (nI I) f_bound f_last f_digest a_modeOf a_depthOf a_cursor a_notedOf a_passedOf a_seenOf a_holder a_idled a_stateOf a_keys a_values a_kept a_birthsOf a_rTicket a_rOwner a_rKind a_rTag a_rHops a_rNeed n (nI (j + 1)) := by
      intro h
      refine ih (j + 1) (by omega) (by omega) ?_
      obtain ⟨i, h1, h2, h3⟩ := hex
      have : i ≠ j := fun z => h (z ▸ h3)
      exact ⟨i, by omega, h2, h3⟩
    refine br_f (nI_ge hlt (by omega)) ⟨hin, ?_⟩
    by_cases z : a_rTicket (nI j).toNatClampNeg = 0
    · refine br_t z (nm_r (nI_1 j) (stay ?_))
      rw [c] at z; exact fun h => h.1 z
    · refine br_f z ⟨hin, ?_⟩
      by_cases y : a_rKind (nI j).toNatClampNeg = 2
      · refine br_t y ⟨hin, ?_⟩
        by_cases w : a_rTag (nI j).toNatClampNeg = x
        · refine br_t w ⟨hin, ?_⟩
          rw [c] at z y w ⊢
          exact K j hlt z y w
        · refine br_f w (nm_r (nI_1 j) (stay ?_))
          rw [c] at w; exact fun h => w h.2.2
      · refine br_f y (nm_r (nI_1 j) (stay ?_))
        rw [c] at y; exact fun h => y h.2.1
end
end
section
theorem gk_v5 {x : Int32} (h0 : ¬ x < 0) (h1 : x ≤ 5) : x = 0 ∨ x = 1 ∨ x = 2 ∨ x = 3 ∨ x = 4 ∨ x = 5 := by
  obtain ⟨j, hj, rfl⟩ := nI_of2 (M := 5) (n := 5) (by decide) h0 h1
  rcases (show j = 0 ∨ j = 1 ∨ j = 2 ∨ j = 3 ∨ j = 4 ∨ j = 5 from by omega) with rfl | rfl | rfl | rfl | rfl | rfl
  · exact Or.inl rfl
  · exact Or.inr (Or.inl rfl)
  · exact Or.inr (Or.inr (Or.inl rfl))
  · exact Or.inr (Or.inr (Or.inr (Or.inl rfl)))
  · exact Or.inr (Or.inr (Or.inr (Or.inr (Or.inl rfl))))
  · exact Or.inr (Or.inr (Or.inr (Or.inr (Or.inr (rfl)))))
theorem gk_v9 {x : Int32} (h0 : ¬ x < 0) (h1 : x ≤ 9) : x = 0 ∨ x = 1 ∨ x = 2 ∨ x = 3 ∨ x = 4 ∨ x = 5 ∨ x = 6 ∨ x = 7 ∨ x = 8 ∨ x = 9 := by
  obtain ⟨j, hj, rfl⟩ := nI_of2 (M := 9) (n := 9) (by decide) h0 h1
  rcases (show j = 0 ∨ j = 1 ∨ j = 2 ∨ j = 3 ∨ j = 4 ∨ j = 5 ∨ j = 6 ∨ j = 7 ∨ j = 8 ∨ j = 9 from by omega) with rfl | rfl | rfl | rfl | rfl | rfl | rfl | rfl | rfl | rfl
  · exact Or.inl rfl
  · exact Or.inr (Or.inl rfl)
  · exact Or.inr (Or.inr (Or.inl rfl))
  · exact Or.inr (Or.inr (Or.inr (Or.inl rfl)))
  · exact Or.inr (Or.inr (Or.inr (Or.inr (Or.inl rfl))))
  · exact Or.inr (Or.inr (Or.inr (Or.inr (Or.inr (Or.inl rfl)))))
  · exact Or.inr (Or.inr (Or.inr (Or.inr (Or.inr (Or.inr (Or.inl rfl))))))
  · exact Or.inr (Or.inr (Or.inr (Or.inr (Or.inr (Or.inr (Or.inr (Or.inl rfl)))))))
  · exact Or.inr (Or.inr (Or.inr (Or.inr (Or.inr (Or.inr (Or.inr (Or.inr (Or.inl rfl))))))))
  · exact Or.inr (Or.inr (Or.inr (Or.inr (Or.inr (Or.inr (Or.inr (Or.inr (Or.inr (rfl)))))))))
theorem gk_v11 {x : Int32} (h0 : ¬ x < 0) (h1 : x ≤ 11) : x = 0 ∨ x = 1 ∨ x = 2 ∨ x = 3 ∨ x = 4 ∨ x = 5 ∨ x = 6 ∨ x = 7 ∨ x = 8 ∨ x = 9 ∨ x = 10 ∨ x = 11 := by
  obtain ⟨j, hj, rfl⟩ := nI_of2 (M := 11) (n := 11) (by decide) h0 h1
  rcases (show j = 0 ∨ j = 1 ∨ j = 2 ∨ j = 3 ∨ j = 4 ∨ j = 5 ∨ j = 6 ∨ j = 7 ∨ j = 8 ∨ j = 9 ∨ j = 10 ∨ j = 11 from by omega) with rfl | rfl | rfl | rfl | rfl | rfl | rfl | rfl | rfl | rfl | rfl | rfl
  · exact Or.inl rfl
  · exact Or.inr (Or.inl rfl)
  · exact Or.inr (Or.inr (Or.inl rfl))
  · exact Or.inr (Or.inr (Or.inr (Or.inl rfl)))
  · exact Or.inr (Or.inr (Or.inr (Or.inr (Or.inl rfl))))
  · exact Or.inr (Or.inr (Or.inr (Or.inr (Or.inr (Or.inl rfl)))))
  · exact Or.inr (Or.inr (Or.inr (Or.inr (Or.inr (Or.inr (Or.inl rfl))))))
  · exact Or.inr (Or.inr (Or.inr (Or.inr (Or.inr (Or.inr (Or.inr (Or.inl rfl)))))))
  · exact Or.inr (Or.inr (Or.inr (Or.inr (Or.inr (Or.inr (Or.inr (Or.inr (Or.inl rfl))))))))
  · exact Or.inr (Or.inr (Or.inr (Or.inr (Or.inr (Or.inr (Or.inr (Or.inr (Or.inr (Or.inl rfl)))))))))
  · exact Or.inr (Or.inr (Or.inr (Or.inr (Or.inr (Or.inr (Or.inr (Or.inr (Or.inr (Or.inr (Or.inl rfl))))))))))
  · exact Or.inr (Or.inr (Or.inr (Or.inr (Or.inr (Or.inr (Or.inr (Or.inr (Or.inr (Or.inr (Or.inr (rfl)))))))))))
theorem i_vc_processor {k : Nat} {u : SX} {v : SY} (I : i_Rel k u v) (hk : k + 4 ≤ 2052) (v1 : Int32) (v2 : Int32) : wpX_processor (fun r => wpY_processor (fun r' => r' = r ∧ i_Rel (k + 4) u v) v v1 v2) u v1 v2 := by
  refine gk_el (Pr := fun u v => wpX_processor (fun r => wpY_processor (fun r' => r' = r ∧ i_Rel (k + 4) u v) v v1 v2) u v1 v2) ?_ I
  intro P W N R G C I RL f_onlineMask f_rootHeld f_freeNodes f_head f_freeSlot f_queued f_running f_newestNeed f_bound f_boundLeft f_last f_digest a_modeOf a_depthOf a_cursorOf a_notedOf a_passedOf a_seenOf a_groupOf a_groupBit a_groupStart a_leafHeld a_leafIdled a_stateOf a_keyOf a_valueOf a_linkOf a_birthsOf a_reclaimOf a_recordTicket a_recordOwner a_recordKind a_recordTag a_recordHops a_recordNeed a_recordNext a_slotOfTicket a_firstRecord a_firstWaiting a_lastRecord a_ownedCount a_readyCount a_cursor a_holder a_idled a_keys a_values a_kept a_rTicket a_rOwner a_rKind a_rTag a_rHops a_rNeed H
  have fin : i_Rel (k + 4) (nI P, nI N, nI R, nI G, f_onlineMask, f_rootHeld, f_freeNodes, f_head, f_freeSlot, f_queued, f_running, nI C, nI I, f_newestNeed, f_bound, f_boundLeft, f_last, f_digest, a_modeOf, a_depthOf, a_cursorOf, a_notedOf, a_passedOf, a_seenOf, a_groupOf, a_groupBit, a_groupStart, a_leafHeld, a_leafIdled, a_stateOf, a_keyOf, a_valueOf, a_linkOf, a_birthsOf, a_reclaimOf, a_recordTicket, a_recordOwner, a_recordKind, a_recordTag, a_recordHops, a_recordNeed, a_recordNext, a_slotOfTicket, a_firstRecord, a_firstWaiting, a_lastRecord, a_ownedCount, a_readyCount) (nI P, nI W, nI N, nI R, f_running, nI C, nI I, f_bound, f_last, f_digest, a_modeOf, a_depthOf, a_cursor, a_notedOf, a_passedOf, a_seenOf, a_holder, a_idled, a_stateOf, a_keys, a_values, a_kept, a_birthsOf, a_rTicket, a_rOwner, a_rKind, a_rTag, a_rHops, a_rNeed) := gk_in (gk_up4 H)
  obtain ⟨hk4, hC, hP, hH, hN, qA, qB, qC, qD, qS, qY, qN⟩ := H
  have hP8 := hC.1.2
  have hR := hC.2.2.2.1.2
  unfold wpX_processor
  rcases gk_isp hP8 v1 with ⟨p, hp, rfl⟩ | hx
  · have hin : vp_in (nI p) 8 := vp_in_nI (by omega) (by omega)
    have cp : (nI p).toNatClampNeg = p := nI_clamp (by omega)
    have y1 : ¬ nI p < 0 := nI_pos (by omega)
    have y2 : ¬ nI P ≤ nI p := nI_ge hp (by omega)
    refine gk_exX hP8 hp (br_f (by decide) ?_)
    by_cases z : v2 < 0
    · exact br_t z (br_f y1 (br_f y2 (br_t z ⟨rfl, fin⟩)))
    · refine br_f z ?_
      by_cases y : 9 < v2
      · exact br_t y (br_f y1 (br_f y2 (br_f z (br_f (gk_nle.mpr y) ⟨rfl, fin⟩))))
      · refine br_f y ?_
        obtain ⟨A, B, HL⟩ := qB p hp
        have mem : ∀ i, i < R → a_rTicket i ≠ 0 → (gk_d a_rTicket a_rOwner a_rKind a_rTag a_rHops a_rNeed) i ∈ RL := fun i hi t => qY.mem_iff.mp (gk_yl_mem.mpr ⟨i, hi, gk_f_s t⟩)
        have ho : ∀ i, i < R → a_rTicket i ≠ 0 → ∃ q, q < P ∧ a_rOwner i = nI q := by
          intro i hi t
          obtain ⟨_, _, _, _, q, h1, _, h2⟩ := qA.2.1 _ (mem i hi t)
          exact ⟨q, h1, h2⟩
        rcases gk_v9 z (gk_nlt.mp y) with rfl | rfl | rfl | rfl | rfl | rfl | rfl | rfl | rfl | rfl
        · exact br_t rfl ⟨hin, (br_f y1 (br_f y2 (br_f z (br_t (by decide) (br_t rfl ⟨hin, rfl, fin⟩)))))⟩
        · exact br_f (by decide) (br_t rfl ⟨hin, (br_f y1 (br_f y2 (br_f z (br_t (by decide) (br_f (by decide) (br_t rfl ⟨hin, rfl, fin⟩))))))⟩)
        · exact br_f (by decide) (br_f (by decide) (br_t rfl ⟨hin, (br_f y1 (br_f y2 (br_f z (br_t (by decide) (br_f (by decide) (br_f (by decide) (br_t rfl ⟨hin, by rw [cp]; exact (hP.2.1 p hp).1, fin⟩)))))))⟩))
        · exact br_f (by decide) (br_f (by decide) (br_f (by decide) (br_t rfl ⟨hin, (br_f y1 (br_f y2 (br_f z (br_t (by decide) (br_f (by decide) (br_f (by decide) (br_f (by decide) (br_t rfl ⟨hin, rfl, fin⟩))))))))⟩)))
        · exact br_f (by decide) (br_f (by decide) (br_f (by decide) (br_f (by decide) (br_t rfl ⟨hin, (br_f y1 (br_f y2 (br_f z (br_t (by decide) (br_f (by decide) (br_f (by decide) (br_f (by decide) (br_f (by decide) (br_t rfl ⟨hin, rfl, fin⟩)))))))))⟩))))
        · exact br_f (by decide) (br_f (by decide) (br_f (by decide) (br_f (by decide) (br_f (by decide) (br_t rfl ⟨hin, (br_f y1 (br_f y2 (br_f z (br_t (by decide) (br_f (by decide) (br_f (by decide) (br_f (by decide) (br_f (by decide) (br_f (by decide) (br_t rfl ⟨hin, rfl, fin⟩))))))))))⟩)))))
        · exact br_f (by decide) (br_f (by decide) (br_f (by decide) (br_f (by decide) (br_f (by decide) (br_f (by decide) (br_t rfl (gk_xih hp hC hH (fun w => br_t rfl (br_f y1 (br_f y2 (br_f z (br_t (by decide) (br_f (by decide) (br_f (by decide) (br_f (by decide) (br_f (by decide) (br_f (by decide) (br_f (by decide) (br_t rfl ⟨hin, br_t (by rw [cp]; exact w) ⟨rfl, fin⟩⟩)))))))))))) (fun w => br_f (by decide) (br_f y1 (br_f y2 (br_f z (br_t (by decide) (br_f (by decide) (br_f (by decide) (br_f (by decide) (br_f (by decide) (br_f (by decide) (br_f (by decide) (br_t rfl ⟨hin, br_f (by rw [cp]; exact w) ⟨rfl, fin⟩⟩)))))))))))))))))))
        · refine br_f (by decide) (br_f (by decide) (br_f (by decide) (br_f (by decide) (br_f (by decide) (br_f (by decide) (br_f (by decide) (br_t rfl (gk_xii hp hC hH (fun w => br_t rfl (br_f y1 (br_f y2 (br_f z (br_t (by decide) (br_f (by decide) (br_f (by decide) (br_f (by decide) (br_f (by decide) (br_f (by decide) (br_f (by decide) (br_f (by decide) (br_t rfl ⟨hin, ?_⟩))))))))))))) (fun w => br_f (by decide) (br_f y1 (br_f y2 (br_f z (br_t (by decide) (br_f (by decide) (br_f (by decide) (br_f (by decide) (br_f (by decide) (br_f (by decide) (br_f (by decide) (br_f (by decide) (br_t rfl ⟨hin, ?_⟩)))))))))))))))))))))
          · by_cases x : a_holder (nI p).toNatClampNeg = 0
            · exact br_t x ⟨rfl, fin⟩
            · refine br_f x ⟨hin, br_t ?_ ⟨rfl, fin⟩⟩
              rw [cp] at x ⊢
              unfold gk_ib at w
              rw [gk_hb_f hp] at w
              simpa [x] using w
          · unfold gk_ib at w
            rw [gk_hb_f hp] at w
            have w1 : ¬ a_holder p = 0 := by intro x; apply w; simp [x]
            have w2 : ¬ a_idled p = 0 := by intro x; apply w; simp [x]
            exact br_f (by rw [cp]; exact w1) ⟨hin, br_f (by rw [cp]; exact w2) ⟨rfl, fin⟩⟩
        · refine br_f (by decide) (br_f (by decide) (br_f (by decide) (br_f (by decide) (br_f (by decide) (br_f (by decide) (br_f (by decide) (br_f (by decide) (br_t rfl ⟨hin, (br_f y1 (br_f y2 (br_f z (br_t (by decide) (br_f (by decide) (br_f (by decide) (br_f (by decide) (br_f (by decide) (br_f (by decide) (br_f (by decide) (br_f (by decide) (br_f (by decide) (⟨R + 1, gk_y152_8 hR ⟨?_, fin⟩ (R + 1) 0 (by omega) (by omega)⟩)))))))))))))⟩))))))))
          rw [cp, qY.countP_eq, gk_L0_own HL.1]
          exact HL.1.2.2.2.2.2.1.symm
        · refine br_f (by decide) (br_f (by decide) (br_f (by decide) (br_f (by decide) (br_f (by decide) (br_f (by decide) (br_f (by decide) (br_f (by decide) (br_f (by decide) (br_t rfl ⟨hin, (br_f y1 (br_f y2 (br_f z (br_t (by decide) (br_f (by decide) (br_f (by decide) (br_f (by decide) (br_f (by decide) (br_f (by decide) (br_f (by decide) (br_f (by decide) (br_f (by decide) (⟨R + 1, gk_y152_9 hp hP8 hR ho ⟨?_, fin⟩ (R + 1) 0 (by omega) (by omega)⟩)))))))))))))⟩)))))))))
          rw [cp, qY.countP_eq, gk_QL_rdy HL]
          exact HL.2.2.1.symm
  · refine gk_nX hP8 hx (br_t rfl ?_)
    rcases pk_ix v1 (n := P) (by omega) with h | h | ⟨p, hp, rfl⟩
    · exact br_t h ⟨rfl, fin⟩
    · exact br_f (by rw [gk_nlt]; exact gk_let (nI_pos' (n := P) (by omega)) h) (br_t h ⟨rfl, fin⟩)
    · exact absurd rfl (hx p hp)
theorem i_vc_node {k : Nat} {u : SX} {v : SY} (I : i_Rel k u v) (hk : k + 4 ≤ 2052) (v1 : Int32) (v2 : Int32) : wpX_node (fun r => wpY_node (fun r' => r' = r ∧ i_Rel (k + 4) u v) v v1 v2) u v1 v2 := by
  refine gk_el (Pr := fun u v => wpX_node (fun r => wpY_node (fun r' => r' = r ∧ i_Rel (k + 4) u v) v v1 v2) u v1 v2) ?_ I
  intro P W N R G C I RL f_onlineMask f_rootHeld f_freeNodes f_head f_freeSlot f_queued f_running f_newestNeed f_bound f_boundLeft f_last f_digest a_modeOf a_depthOf a_cursorOf a_notedOf a_passedOf a_seenOf a_groupOf a_groupBit a_groupStart a_leafHeld a_leafIdled a_stateOf a_keyOf a_valueOf a_linkOf a_birthsOf a_reclaimOf a_recordTicket a_recordOwner a_recordKind a_recordTag a_recordHops a_recordNeed a_recordNext a_slotOfTicket a_firstRecord a_firstWaiting a_lastRecord a_ownedCount a_readyCount a_cursor a_holder a_idled a_keys a_values a_kept a_rTicket a_rOwner a_rKind a_rTag a_rHops a_rNeed H
  have fin : i_Rel (k + 4) (nI P, nI N, nI R, nI G, f_onlineMask, f_rootHeld, f_freeNodes, f_head, f_freeSlot, f_queued, f_running, nI C, nI I, f_newestNeed, f_bound, f_boundLeft, f_last, f_digest, a_modeOf, a_depthOf, a_cursorOf, a_notedOf, a_passedOf, a_seenOf, a_groupOf, a_groupBit, a_groupStart, a_leafHeld, a_leafIdled, a_stateOf, a_keyOf, a_valueOf, a_linkOf, a_birthsOf, a_reclaimOf, a_recordTicket, a_recordOwner, a_recordKind, a_recordTag, a_recordHops, a_recordNeed, a_recordNext, a_slotOfTicket, a_firstRecord, a_firstWaiting, a_lastRecord, a_ownedCount, a_readyCount) (nI P, nI W, nI N, nI R, f_running, nI C, nI I, f_bound, f_last, f_digest, a_modeOf, a_depthOf, a_cursor, a_notedOf, a_passedOf, a_seenOf, a_holder, a_idled, a_stateOf, a_keys, a_values, a_kept, a_birthsOf, a_rTicket, a_rOwner, a_rKind, a_rTag, a_rHops, a_rNeed) := gk_in (gk_up4 H)
  obtain ⟨hk4, hC, hP, hH, hN, qA, qB, qC, qD, qS, qY, qN⟩ := H
  have hR := hC.2.2.2.1.2
  have hN16 := hC.2.2.1.2
  rcases pk_ix v1 (n := N) (by omega) with h | h | ⟨n, hn, rfl⟩
  · exact br_t h (br_t h ⟨rfl, fin⟩)
  · have h0 : ¬ v1 < 0 := by rw [gk_nlt]; exact gk_let (nI_pos' (n := N) (by omega)) h
    exact br_f h0 (br_f (gk_nlt.mpr h) (br_f h0 (br_t h ⟨rfl, fin⟩)))
  · have hin : vp_in (nI n) 16 := vp_in_nI (by omega) (by omega)
    have c : (nI n).toNatClampNeg = n := nI_clamp (by omega)
    have y1 : ¬ nI n < 0 := nI_pos (by omega)
    have y2 : ¬ nI N ≤ nI n := nI_ge hn (by omega)
    refine br_f y1 (br_t (nI_lt hn (by omega)) ?_)
    by_cases z : v2 < 0
    · exact br_t z (br_f y1 (br_f y2 (br_t z ⟨rfl, fin⟩)))
    · refine br_f z ?_
      by_cases y : 5 < v2
      · exact br_t y (br_f y1 (br_f y2 (br_f z (br_f (gk_nle.mpr y) ⟨rfl, fin⟩))))
      · refine br_f y ?_
        have hN0 := hN
        obtain ⟨NL, HNL⟩ := hN
        have h6 := HNL.2.2.2.2.2.1 n hn
        rcases gk_v5 z (gk_nlt.mp y) with rfl | rfl | rfl | rfl | rfl | rfl
        · exact br_t rfl ⟨hin, (br_f y1 (br_f y2 (br_f z (br_t (by decide) (br_t rfl ⟨hin, rfl, fin⟩)))))⟩
        · refine br_f (by decide) (br_t rfl ⟨hin, (br_f y1 (br_f y2 (br_f z (br_t (by decide) (br_f (by decide) (br_t rfl ⟨hin, ?_⟩))))))⟩)
          rcases h6 with ⟨g1, g2, g3, g4⟩ | ⟨g1, g2, g3, g4⟩
          · exact br_t (by rw [c]; exact g1) ⟨by rw [c]; exact g2.symm, fin⟩
          · refine br_f ?_ ⟨hin, by rw [c]; exact g2, fin⟩
            rw [c]; rcases g1 with g1 | g1 <;> rw [g1] <;> decide
        · refine br_f (by decide) (br_f (by decide) (br_t rfl ⟨hin, (br_f y1 (br_f y2 (br_f z (br_t (by decide) (br_f (by decide) (br_f (by decide) (br_t rfl ⟨hin, ?_⟩)))))))⟩))
          rcases h6 with ⟨g1, g2, g3, g4⟩ | ⟨g1, g2, g3, g4⟩
          · exact br_t (by rw [c]; exact g1) ⟨by rw [c]; exact g3.symm, fin⟩
          · refine br_f ?_ ⟨hin, by rw [c]; exact g3, fin⟩
            rw [c]; rcases g1 with g1 | g1 <;> rw [g1] <;> decide
        · exact br_f (by decide) (br_f (by decide) (br_f (by decide) (br_t rfl ⟨hin, (br_f y1 (br_f y2 (br_f z (br_t (by decide) (br_f (by decide) (br_f (by decide) (br_f (by decide) (br_t rfl (gk_ylink hN16 hn hN0 ⟨by rw [c], fin⟩)))))))))⟩)))
        · exact br_f (by decide) (br_f (by decide) (br_f (by decide) (br_f (by decide) (br_t rfl ⟨hin, (br_f y1 (br_f y2 (br_f z (br_t (by decide) (br_f (by decide) (br_f (by decide) (br_f (by decide) (br_f (by decide) (br_t rfl ⟨hin, rfl, fin⟩)))))))))⟩))))
        · refine br_f (by decide) (br_f (by decide) (br_f (by decide) (br_f (by decide) (br_f (by decide) (br_t rfl ⟨hin, (br_f y1 (br_f y2 (br_f z (br_t (by decide) (br_f (by decide) (br_f (by decide) (br_f (by decide) (br_f (by decide) (br_f (by decide) (⟨hin, ?_⟩))))))))))⟩)))))
          by_cases x : a_stateOf (nI n).toNatClampNeg = 2
          · refine br_t x ⟨R + 1, gk_y122_l hR ?_ (R + 1) 0 (by omega) (by omega) ?_⟩
            · intro i hi t k2 tg
              obtain ⟨n', h1, h2, h3, h4⟩ := qN.1 _ (qY.mem_iff.mp (gk_yl_mem.mpr ⟨i, hi, gk_f_s t⟩)) k2
              have e : n' = n := gk_inj (h2.symm.trans tg) (by omega) (by omega)
              subst e
              refine ⟨?_, fin⟩
              rw [c, h4]; rfl
            · rw [c] at x
              obtain ⟨r, h1, h2, h3⟩ := qN.2 n hn x
              obtain ⟨i, hi, hf⟩ := gk_yl_mem.mp (qY.mem_iff.mpr h1)
              have t : a_rTicket i ≠ 0 := by intro w; rw [gk_f_n w] at hf; simp at hf
              rw [gk_f_s t] at hf
              have hd : (gk_d a_rTicket a_rOwner a_rKind a_rTag a_rHops a_rNeed) i = r := Option.some.inj hf
              rw [← hd] at h2 h3
              exact ⟨i, Nat.zero_le _, hi, t, h2, h3⟩
          · refine br_f x ⟨?_, fin⟩
            rw [c] at x ⊢
            exact (HNL.2.2.2.2.2.2.2.1 n hn x).symm
section
variable {k : Nat}
variable {P W N R G C I : Nat} {RL : List gk_Rec}
variable {f_onlineMask f_rootHeld f_freeNodes f_head f_freeSlot f_queued f_running f_newestNeed f_bound f_boundLeft f_last f_digest : Int32}
variable {a_modeOf a_depthOf a_cursorOf a_notedOf a_passedOf a_seenOf a_groupOf a_groupBit a_groupStart a_leafHeld a_leafIdled a_stateOf a_keyOf a_valueOf a_linkOf a_birthsOf a_reclaimOf a_recordTicket a_recordOwner a_recordKind a_recordTag a_recordHops a_recordNeed a_recordNext a_slotOfTicket a_firstRecord a_firstWaiting a_lastRecord a_ownedCount a_readyCount a_cursor a_holder a_idled a_keys a_values a_kept a_rTicket a_rOwner a_rKind a_rTag a_rHops a_rNeed : Nat → Int32}
theorem gk_y27_l {post : Int32 → Prop} {t x2 : Int32} (hR : R ≤ 24)
    (K1 : ∀ i, i < R → a_rTicket i = t → (x2 = 0 → wpY_ready (fun r_20 => (r_20 = 0 → post 1) ∧ (¬ r_20 = 0 → post 2)) (nI P, nI W, nI N, nI R, f_running, nI C, nI I, f_bound, f_last, f_digest, a_modeOf, a_depthOf, a_cursor, a_notedOf, a_passedOf, a_seenOf, a_holder, a_idled, a_stateOf, a_keys, a_values, a_kept, a_birthsOf, a_rTicket, a_rOwner, a_rKind, a_rTag, a_rHops, a_rNeed) (nI i)) ∧ (x2 = 1 → post (a_rOwner i)) ∧ (x2 = 2 → post (a_rNeed i)) ∧ (x2 = 3 → post (a_rKind i)) ∧ (x2 = 4 → post (a_rTag i)) ∧ (x2 = 5 → post (a_rHops i)))
    (hx : x2 = 0 ∨ x2 = 1 ∨ x2 = 2 ∨ x2 = 3 ∨ x2 = 4 ∨ x2 = 5)
    (K0 : (∀ i, i < R → a_rTicket i ≠ t) → (x2 = 0 → post 3) ∧ (¬ x2 = 0 → post (-1))) :
    ∀ n j, R - j < n → j ≤ R → (∀ i, i < j → a_rTicket i ≠ t) → wY_ticket_27 post t x2 (nI P) (nI W) (nI N) (nI R) f_running (nI C) (nI I) f_bound f_last f_digest a_modeOf a_depthOf a_cursor a_notedOf a_passedOf a_seenOf a_holder a_idled a_stateOf a_keys a_values a_kept a_birthsOf a_rTicket a_rOwner a_rKind a_rTag a_rHops a_rNeed n (nI j) := by
  intro n
  induction n with
  | zero => intro j h; omega
  | succ n ih =>
    intro j hn hj hb
    by_cases e : j = R
    · subst e
      exact br_t (gk_lerf _) (K0 hb)
    · have hlt : j < R := by omega
      have c : (nI j).toNatClampNeg = j := nI_clamp (by omega)
      have hin : vp_in (nI j) 24 := vp_in_nI (by omega) (by omega)
      refine br_f (nI_ge hlt (by omega)) ⟨hin, ?_⟩
      by_cases z : a_rTicket (nI j).toNatClampNeg = t
      · refine br_t z ?_
        rw [c] at z
        obtain ⟨k0, k1, k2, k3, k4, k5⟩ := K1 j hlt z
        rw [c]
        rcases hx with rfl | rfl | rfl | rfl | rfl | rfl
        · exact br_t rfl (k0 rfl)
        · exact br_f (by decide) (br_t rfl ⟨hin, k1 rfl⟩)
        · exact br_f (by decide) (br_f (by decide) (br_t rfl ⟨hin, k2 rfl⟩))
        · exact br_f (by decide) (br_f (by decide) (br_f (by decide) (br_t rfl ⟨hin, k3 rfl⟩)))
        · exact br_f (by decide) (br_f (by decide) (br_f (by decide) (br_f (by decide) (br_t rfl ⟨hin, k4 rfl⟩))))
        · exact br_f (by decide) (br_f (by decide) (br_f (by decide) (br_f (by decide) (br_f (by decide) ⟨hin, k5 rfl⟩))))
      · refine br_f z (nm_r (nI_1 j) (ih (j + 1) (by omega) (by omega) ?_))
        rw [c] at z
        intro i hi
        by_cases ei : i = j
        · rw [ei]; exact z
        · exact hb i (by omega)
end
theorem i_vc_ticket {k : Nat} {u : SX} {v : SY} (I : i_Rel k u v) (hk : k + 4 ≤ 2052) (v1 : Int32) (v2 : Int32) : wpX_ticket (fun r => wpY_ticket (fun r' => r' = r ∧ i_Rel (k + 4) u v) v v1 v2) u v1 v2 := by
  refine gk_el (Pr := fun u v => wpX_ticket (fun r => wpY_ticket (fun r' => r' = r ∧ i_Rel (k + 4) u v) v v1 v2) u v1 v2) ?_ I
  intro P W N R G C I RL f_onlineMask f_rootHeld f_freeNodes f_head f_freeSlot f_queued f_running f_newestNeed f_bound f_boundLeft f_last f_digest a_modeOf a_depthOf a_cursorOf a_notedOf a_passedOf a_seenOf a_groupOf a_groupBit a_groupStart a_leafHeld a_leafIdled a_stateOf a_keyOf a_valueOf a_linkOf a_birthsOf a_reclaimOf a_recordTicket a_recordOwner a_recordKind a_recordTag a_recordHops a_recordNeed a_recordNext a_slotOfTicket a_firstRecord a_firstWaiting a_lastRecord a_ownedCount a_readyCount a_cursor a_holder a_idled a_keys a_values a_kept a_rTicket a_rOwner a_rKind a_rTag a_rHops a_rNeed H
  have fin : i_Rel (k + 4) (nI P, nI N, nI R, nI G, f_onlineMask, f_rootHeld, f_freeNodes, f_head, f_freeSlot, f_queued, f_running, nI C, nI I, f_newestNeed, f_bound, f_boundLeft, f_last, f_digest, a_modeOf, a_depthOf, a_cursorOf, a_notedOf, a_passedOf, a_seenOf, a_groupOf, a_groupBit, a_groupStart, a_leafHeld, a_leafIdled, a_stateOf, a_keyOf, a_valueOf, a_linkOf, a_birthsOf, a_reclaimOf, a_recordTicket, a_recordOwner, a_recordKind, a_recordTag, a_recordHops, a_recordNeed, a_recordNext, a_slotOfTicket, a_firstRecord, a_firstWaiting, a_lastRecord, a_ownedCount, a_readyCount) (nI P, nI W, nI N, nI R, f_running, nI C, nI I, f_bound, f_last, f_digest, a_modeOf, a_depthOf, a_cursor, a_notedOf, a_passedOf, a_seenOf, a_holder, a_idled, a_stateOf, a_keys, a_values, a_kept, a_birthsOf, a_rTicket, a_rOwner, a_rKind, a_rTag, a_rHops, a_rNeed) := gk_in (gk_up4 H)
  obtain ⟨hk4, hC, hP, hH, hN, qA, qB, qC, qD, qS, qY, qN⟩ := H
  have hP8 := hC.1.2
  have hR := hC.2.2.2.1.2
  by_cases t1 : v1 < 1
  · exact br_t t1 (br_t t1 ⟨rfl, fin⟩)
  · refine br_f t1 ?_
    by_cases t2 : nI I < v1
    · exact br_t t2 (br_f t1 (br_t t2 ⟨rfl, fin⟩))
    · refine br_f t2 ?_
      by_cases z : v2 < 0
      · exact br_t z (br_f t1 (br_f t2 (br_t z ⟨rfl, fin⟩)))
      · refine br_f z ?_
        by_cases y : v2 ≤ 5
        · have t0 : 0 < v1 := by
            have h1 : (1 : Int32).toInt = 1 := by decide
            have h0 : (0 : Int32).toInt = 0 := by decide
            rw [Int32.lt_iff_toInt_lt, h1] at t1
            rw [Int32.lt_iff_toInt_lt, h0]
            omega
          obtain ⟨t, ht1, ht2, rfl, ct, hvt⟩ := gk_tick qA.2.2.2.2.2 t0 (gk_nlt.mp t2)
          have hx := gk_v5 z y
          have tne0 : ¬ nI t = 0 := nI_ne0 (by omega) (by have := qA.2.2.2.2.2; omega)
          have mem : ∀ i, i < R → a_rTicket i = nI t → (gk_d a_rTicket a_rOwner a_rKind a_rTag a_rHops a_rNeed) i ∈ RL := fun i hi h => qY.mem_iff.mp (gk_yl_mem.mpr ⟨i, hi, gk_f_s (by rw [h]; exact tne0)⟩)
          refine br_t y ⟨hvt, ?_⟩
          by_cases ex : ∃ r, r ∈ RL ∧ r.1 = nI t
          · obtain ⟨r, hr, hrt⟩ := ex
            obtain ⟨_, _, _, _, q, hq, _, hro⟩ := qA.2.1 r hr
            obtain ⟨A, B, HL⟩ := qB q hq
            have hrf : r ∈ (A ++ B).map (gk_d a_recordTicket a_recordOwner a_recordKind a_recordTag a_recordHops a_recordNeed) := by rw [HL.1.1, List.mem_filter]; exact ⟨hr, gk_ow_t hro⟩
            obtain ⟨s, hs, hd⟩ := List.mem_map.mp hrf
            have hsR := HL.1.2.1 s hs
            have hso : a_slotOfTicket t = nI (s + 1) := by
              have := HL.1.2.2.2.2.2.2 s hs
              rw [hd, hrt, ct] at this
              exact this
            have c : (nI s).toNatClampNeg = s := nI_clamp (by omega)
            have hin : vp_in (nI s) 24 := vp_in_nI (by omega) (by omega)
            have cq : (nI q).toNatClampNeg = q := nI_clamp (by omega)
            have eO : a_recordOwner s = nI q := by rw [← hro, ← hd]; rfl
            have yd : ∀ i, i < R → a_rTicket i = nI t → (gk_d a_rTicket a_rOwner a_rKind a_rTag a_rHops a_rNeed) i = (gk_d a_recordTicket a_recordOwner a_recordKind a_recordTag a_recordHops a_recordNeed) s := by
              intro i hi h
              rw [hd]
              exact gk_uniq qA.1 (mem i hi h) hr (by rw [hrt]; exact h)
            refine nm_r (e' := nI s) (by rw [ct, hso, nI_pred]) (br_t (nI_pos' (by omega)) ?_)
            obtain ⟨b, hbR, hbf⟩ := gk_yl_mem.mp (qY.mem_iff.mpr hr)
            have tb : a_rTicket b ≠ 0 := by intro w; rw [gk_f_n w] at hbf; simp at hbf
            have hbt : a_rTicket b = nI t := by
              rw [gk_f_s tb] at hbf
              rw [← hrt, ← Option.some.inj hbf]; rfl
            have hno : ¬ ∀ i, i < R → a_rTicket i ≠ nI t := fun h => h b hbR hbt
            rcases hx with rfl | rfl | rfl | rfl | rfl | rfl
            · refine br_f z (br_f (by decide) (br_t rfl ⟨hin, hin, by rw [c, eO]; exact vp_in_nI (by omega) (by omega), ?_⟩))
              by_cases x : a_seenOf q < a_recordNeed s
              · refine br_t (by rw [c, eO, cq]; exact x) (br_f t1 (br_f t2 (br_f z (br_t y ⟨R + 1, gk_y27_l hR (fun i hi h => ⟨fun _ => gk_yready hP8 (by omega) (fun _ => ⟨q, hq, ?_⟩) (fun q' hq' _ eo hs => ?_) (fun _ => br_t rfl ⟨rfl, fin⟩), fun w => absurd w (by decide), fun w => absurd w (by decide), fun w => absurd w (by decide), fun w => absurd w (by decide), fun w => absurd w (by decide)⟩) (gk_v5 z y) (fun h => absurd h hno) (R + 1) 0 (by omega) (by omega) (fun i hi => absurd hi (by omega))⟩))))
                · have := congrArg (fun r : gk_Rec => r.2.1) (yd i hi h)
                  exact this.trans eO
                · exfalso
                  have h1 := congrArg (fun r : gk_Rec => r.2.1) (yd i hi h)
                  have h2 : a_rNeed i = a_recordNeed s := congrArg (fun r : gk_Rec => r.2.2.2.2.2) (yd i hi h)
                  have h3 : a_rOwner i = nI q := h1.trans eO
                  have := gk_inj (eo.symm.trans h3) (by omega) (by omega)
                  subst this
                  rw [h2] at hs
                  exact gk_nlt.mpr hs x
              · refine br_f (by rw [c, eO, cq]; exact x) (br_f t1 (br_f t2 (br_f z (br_t y ⟨R + 1, gk_y27_l hR (fun i hi h => ⟨fun _ => gk_yready hP8 (by omega) (fun _ => ⟨q, hq, ?_⟩) (fun _ _ _ _ _ => br_f (by decide) ⟨rfl, fin⟩) (fun hn => absurd ?_ hn), fun w => absurd w (by decide), fun w => absurd w (by decide), fun w => absurd w (by decide), fun w => absurd w (by decide), fun w => absurd w (by decide)⟩) (gk_v5 z y) (fun h => absurd h hno) (R + 1) 0 (by omega) (by omega) (fun i hi => absurd hi (by omega))⟩))))
                · have := congrArg (fun r : gk_Rec => r.2.1) (yd i hi h)
                  exact this.trans eO
                · have h1 := congrArg (fun r : gk_Rec => r.2.1) (yd i hi h)
                  have h2 : a_rNeed i = a_recordNeed s := congrArg (fun r : gk_Rec => r.2.2.2.2.2) (yd i hi h)
                  refine ⟨by rw [h]; exact tne0, q, hq, h1.trans eO, ?_⟩
                  rw [h2]; exact gk_nlt.mp x
            · exact br_f z (br_f (by decide) (br_f (by decide) (br_t rfl ⟨hin, (br_f t1 (br_f t2 (br_f z (br_t y ⟨R + 1, gk_y27_l hR (fun i hi h => ⟨fun w => absurd w (by decide), fun _ => ⟨by rw [c]; exact congrArg (fun r : gk_Rec => r.2.1) (yd i hi h), fin⟩, fun w => absurd w (by decide), fun w => absurd w (by decide), fun w => absurd w (by decide), fun w => absurd w (by decide)⟩) (gk_v5 z y) (fun h => absurd h hno) (R + 1) 0 (by omega) (by omega) (fun i hi => absurd hi (by omega))⟩))))⟩)))
            · exact br_f z (br_f (by decide) (br_f (by decide) (br_f (by decide) (br_t rfl ⟨hin, (br_f t1 (br_f t2 (br_f z (br_t y ⟨R + 1, gk_y27_l hR (fun i hi h => ⟨fun w => absurd w (by decide), fun w => absurd w (by decide), fun _ => ⟨by rw [c]; exact congrArg (fun r : gk_Rec => r.2.2.2.2.2) (yd i hi h), fin⟩, fun w => absurd w (by decide), fun w => absurd w (by decide), fun w => absurd w (by decide)⟩) (gk_v5 z y) (fun h => absurd h hno) (R + 1) 0 (by omega) (by omega) (fun i hi => absurd hi (by omega))⟩))))⟩))))
            · exact br_f z (br_f (by decide) (br_f (by decide) (br_f (by decide) (br_f (by decide) (br_t rfl ⟨hin, (br_f t1 (br_f t2 (br_f z (br_t y ⟨R + 1, gk_y27_l hR (fun i hi h => ⟨fun w => absurd w (by decide), fun w => absurd w (by decide), fun w => absurd w (by decide), fun _ => ⟨by rw [c]; exact congrArg (fun r : gk_Rec => r.2.2.1) (yd i hi h), fin⟩, fun w => absurd w (by decide), fun w => absurd w (by decide)⟩) (gk_v5 z y) (fun h => absurd h hno) (R + 1) 0 (by omega) (by omega) (fun i hi => absurd hi (by omega))⟩))))⟩)))))
            · exact br_f z (br_f (by decide) (br_f (by decide) (br_f (by decide) (br_f (by decide) (br_f (by decide) (br_t rfl ⟨hin, (br_f t1 (br_f t2 (br_f z (br_t y ⟨R + 1, gk_y27_l hR (fun i hi h => ⟨fun w => absurd w (by decide), fun w => absurd w (by decide), fun w => absurd w (by decide), fun w => absurd w (by decide), fun _ => ⟨by rw [c]; exact congrArg (fun r : gk_Rec => r.2.2.2.1) (yd i hi h), fin⟩, fun w => absurd w (by decide)⟩) (gk_v5 z y) (fun h => absurd h hno) (R + 1) 0 (by omega) (by omega) (fun i hi => absurd hi (by omega))⟩))))⟩))))))
            · exact br_f z (br_t (by decide) ⟨hin, (br_f t1 (br_f t2 (br_f z (br_t y ⟨R + 1, gk_y27_l hR (fun i hi h => ⟨fun w => absurd w (by decide), fun w => absurd w (by decide), fun w => absurd w (by decide), fun w => absurd w (by decide), fun w => absurd w (by decide), fun _ => ⟨by rw [c]; exact congrArg (fun r : gk_Rec => r.2.2.2.2.1) (yd i hi h), fin⟩⟩) (gk_v5 z y) (fun h => absurd h hno) (R + 1) 0 (by omega) (by omega) (fun i hi => absurd hi (by omega))⟩))))⟩)
          · have hno : ∀ r, r ∈ RL → r.1 ≠ nI t := fun r hr e => ex ⟨r, hr, e⟩
            have hso := qD t ht1 ht2 hno
            refine nm_r (e' := -1) (by rw [ct, hso]; decide) (br_f gk_0nle ?_)
            have hK1 : ∀ i, i < R → a_rTicket i = nI t → False := fun i hi h => hno _ (mem i hi h) h
            by_cases x : v2 = 0
            · exact br_t x (br_f t1 (br_f t2 (br_f z (br_t y ⟨R + 1, gk_y27_l hR (fun i hi h => (hK1 i hi h).elim) hx (fun _ => br_t x ⟨rfl, fin⟩) (R + 1) 0 (by omega) (by omega) (fun i hi => absurd hi (by omega))⟩))))
            · exact br_f x (br_f t1 (br_f t2 (br_f z (br_t y ⟨R + 1, gk_y27_l hR (fun i hi h => (hK1 i hi h).elim) hx (fun _ => br_f x ⟨rfl, fin⟩) (R + 1) 0 (by omega) (by omega) (fun i hi => absurd hi (by omega))⟩))))
        · exact br_f y (br_f t1 (br_f t2 (br_f z (br_f y ⟨rfl, fin⟩))))
theorem i_vc_whole {k : Nat} {u : SX} {v : SY} (I : i_Rel k u v) (hk : k + 4 ≤ 2052) (v1 : Int32) : wpX_whole (fun r => wpY_whole (fun r' => r' = r ∧ i_Rel (k + 4) u v) v v1) u v1 := by
  refine gk_el (Pr := fun u v => wpX_whole (fun r => wpY_whole (fun r' => r' = r ∧ i_Rel (k + 4) u v) v v1) u v1) ?_ I
  intro P W N R G C I RL f_onlineMask f_rootHeld f_freeNodes f_head f_freeSlot f_queued f_running f_newestNeed f_bound f_boundLeft f_last f_digest a_modeOf a_depthOf a_cursorOf a_notedOf a_passedOf a_seenOf a_groupOf a_groupBit a_groupStart a_leafHeld a_leafIdled a_stateOf a_keyOf a_valueOf a_linkOf a_birthsOf a_reclaimOf a_recordTicket a_recordOwner a_recordKind a_recordTag a_recordHops a_recordNeed a_recordNext a_slotOfTicket a_firstRecord a_firstWaiting a_lastRecord a_ownedCount a_readyCount a_cursor a_holder a_idled a_keys a_values a_kept a_rTicket a_rOwner a_rKind a_rTag a_rHops a_rNeed H
  have fin : i_Rel (k + 4) (nI P, nI N, nI R, nI G, f_onlineMask, f_rootHeld, f_freeNodes, f_head, f_freeSlot, f_queued, f_running, nI C, nI I, f_newestNeed, f_bound, f_boundLeft, f_last, f_digest, a_modeOf, a_depthOf, a_cursorOf, a_notedOf, a_passedOf, a_seenOf, a_groupOf, a_groupBit, a_groupStart, a_leafHeld, a_leafIdled, a_stateOf, a_keyOf, a_valueOf, a_linkOf, a_birthsOf, a_reclaimOf, a_recordTicket, a_recordOwner, a_recordKind, a_recordTag, a_recordHops, a_recordNeed, a_recordNext, a_slotOfTicket, a_firstRecord, a_firstWaiting, a_lastRecord, a_ownedCount, a_readyCount) (nI P, nI W, nI N, nI R, f_running, nI C, nI I, f_bound, f_last, f_digest, a_modeOf, a_depthOf, a_cursor, a_notedOf, a_passedOf, a_seenOf, a_holder, a_idled, a_stateOf, a_keys, a_values, a_kept, a_birthsOf, a_rTicket, a_rOwner, a_rKind, a_rTag, a_rHops, a_rNeed) := gk_in (gk_up4 H)
  obtain ⟨hk4, hC, hP, hH, hN, qA, qB, qC, qD, qS, qY, qN⟩ := H
  have hP8 := hC.1.2
  have hR := hC.2.2.2.1.2
  have hN16 := hC.2.2.1.2
  have out : (∀ c : Int32, 0 ≤ c → c ≤ 11 → ¬ v1 = c) → wpY_whole (fun r' => r' = -2 ∧ i_Rel (k + 4) (nI P, nI N, nI R, nI G, f_onlineMask, f_rootHeld, f_freeNodes, f_head, f_freeSlot, f_queued, f_running, nI C, nI I, f_newestNeed, f_bound, f_boundLeft, f_last, f_digest, a_modeOf, a_depthOf, a_cursorOf, a_notedOf, a_passedOf, a_seenOf, a_groupOf, a_groupBit, a_groupStart, a_leafHeld, a_leafIdled, a_stateOf, a_keyOf, a_valueOf, a_linkOf, a_birthsOf, a_reclaimOf, a_recordTicket, a_recordOwner, a_recordKind, a_recordTag, a_recordHops, a_recordNeed, a_recordNext, a_slotOfTicket, a_firstRecord, a_firstWaiting, a_lastRecord, a_ownedCount, a_readyCount) (nI P, nI W, nI N, nI R, f_running, nI C, nI I, f_bound, f_last, f_digest, a_modeOf, a_depthOf, a_cursor, a_notedOf, a_passedOf, a_seenOf, a_holder, a_idled, a_stateOf, a_keys, a_values, a_kept, a_birthsOf, a_rTicket, a_rOwner, a_rKind, a_rTag, a_rHops, a_rNeed)) (nI P, nI W, nI N, nI R, f_running, nI C, nI I, f_bound, f_last, f_digest, a_modeOf, a_depthOf, a_cursor, a_notedOf, a_passedOf, a_seenOf, a_holder, a_idled, a_stateOf, a_keys, a_values, a_kept, a_birthsOf, a_rTicket, a_rOwner, a_rKind, a_rTag, a_rHops, a_rNeed) v1 := by
    intro ne
    exact br_f (ne 0 (by decide) (by decide)) (br_f (ne 1 (by decide) (by decide)) (br_f (ne 2 (by decide) (by decide)) (br_f (ne 3 (by decide) (by decide)) (br_f (ne 4 (by decide) (by decide)) (br_f (ne 5 (by decide) (by decide)) (br_f (ne 6 (by decide) (by decide)) (br_f (ne 7 (by decide) (by decide)) (br_f (ne 8 (by decide) (by decide)) (br_f (ne 9 (by decide) (by decide)) (br_f (ne 10 (by decide) (by decide)) (br_f (ne 11 (by decide) (by decide)) (⟨rfl, fin⟩))))))))))))
  by_cases z : v1 < 0
  · exact br_t z (out (fun c h1 _ e => by subst e; exact gk_nlt.mpr h1 z))
  · refine br_f z ?_
    by_cases y : 11 < v1
    · exact br_t y (out (fun c _ h2 e => by subst e; exact gk_nlt.mpr h2 y))
    · refine br_f y ?_
      rcases gk_v11 z (gk_nlt.mp y) with rfl | rfl | rfl | rfl | rfl | rfl | rfl | rfl | rfl | rfl | rfl | rfl
      · exact br_t rfl (br_t rfl ⟨rfl, fin⟩)
      · by_cases x : f_running = 0
        · exact br_f (by decide) (br_t rfl (br_t x (br_f (by decide) (br_t rfl (br_t x ⟨rfl, fin⟩)))))
        · exact br_f (by decide) (br_t rfl (br_f x (br_f (by decide) (br_t rfl (br_f x ⟨rfl, fin⟩)))))
      · exact br_f (by decide) (br_f (by decide) (br_t rfl (gk_xhm hC hH (fun m hm => (br_f (by decide) (br_f (by decide) (br_t rfl ⟨P + 1, gk_y41_l hP8 (fun m' hm' => ⟨b_ext (fun i hi => (hm' i hi).trans (hm i hi).symm), fin⟩) (P + 1) 0 0 (by omega) (by omega) (fun i hi => by rw [b_0]; simp)⟩)))))))
      · refine br_f (by decide) (br_f (by decide) (br_f (by decide) (br_t rfl (br_f (by decide) (br_f (by decide) (br_f (by decide) (br_t rfl ⟨5, gk_y79_l hP8 hC.2.1 (fun m hm => ⟨b_ext (fun g hg => ?_), fin⟩) 5 0 0 (by omega) (by omega) (fun g hg => by rw [b_0]; simp)⟩)))))))
        rw [hm g hg, hH.2.2.1 g hg]
        by_cases x : g < 4
        · rw [gk_lh_any hC.2.1 hH x]
        · simp [x]
      · exact br_f (by decide) (br_f (by decide) (br_f (by decide) (br_f (by decide) (br_t rfl (br_f (by decide) (br_f (by decide) (br_f (by decide) (br_f (by decide) (br_t rfl (gk_yqd hR qY ⟨qS.1.symm, fin⟩))))))))))
      · exact br_f (by decide) (br_f (by decide) (br_f (by decide) (br_f (by decide) (br_f (by decide) (br_t rfl (br_f (by decide) (br_f (by decide) (br_f (by decide) (br_f (by decide) (br_f (by decide) (br_t rfl ⟨R + 1, gk_y163_l hR ⟨by rw [qY.countP_eq]; exact qS.2.2.symm, fin⟩ (R + 1) 0 (by omega) (by omega)⟩)))))))))))
      · exact br_f (by decide) (br_f (by decide) (br_f (by decide) (br_f (by decide) (br_f (by decide) (br_f (by decide) (br_t rfl (br_f (by decide) (br_f (by decide) (br_f (by decide) (br_f (by decide) (br_f (by decide) (br_f (by decide) (br_t rfl ⟨rfl, fin⟩)))))))))))))
      · exact br_f (by decide) (br_f (by decide) (br_f (by decide) (br_f (by decide) (br_f (by decide) (br_f (by decide) (br_f (by decide) (br_t rfl (br_f (by decide) (br_f (by decide) (br_f (by decide) (br_f (by decide) (br_f (by decide) (br_f (by decide) (br_f (by decide) (br_t rfl (gk_yhead hN16 hN ⟨rfl, fin⟩))))))))))))))))
      · refine br_f (by decide) (br_f (by decide) (br_f (by decide) (br_f (by decide) (br_f (by decide) (br_f (by decide) (br_f (by decide) (br_f (by decide) (br_t rfl (gk_xcnt (br_f (by decide) (br_f (by decide) (br_f (by decide) (br_f (by decide) (br_f (by decide) (br_f (by decide) (br_f (by decide) (br_f (by decide) (br_t rfl ⟨N + 1, gk_y234_l hN16 ⟨?_, fin⟩ (N + 1) 0 (by omega) (by omega)⟩))))))))))))))))))
        obtain ⟨NL, HNL⟩ := hN
        congr 1
        have e1 : gk_cn (bt f_freeNodes) 16 = gk_cn (fun i => decide (i < N) && decide (a_stateOf i = 0)) 16 := gk_cn_c (fun i hi => HNL.2.2.2.2.2.2.2.2 i (by omega))
        rw [e1, gk_cn_cut (n := N) (fun i hi => by rw [decide_eq_false (by omega), Bool.false_and]) 16 hN16]
        exact gk_cn_c (fun i hi => by rw [decide_eq_true hi, Bool.true_and])
      · exact br_f (by decide) (br_f (by decide) (br_f (by decide) (br_f (by decide) (br_f (by decide) (br_f (by decide) (br_f (by decide) (br_f (by decide) (br_f (by decide) (br_t rfl (br_f (by decide) (br_f (by decide) (br_f (by decide) (br_f (by decide) (br_f (by decide) (br_f (by decide) (br_f (by decide) (br_f (by decide) (br_f (by decide) (br_t rfl ⟨rfl, fin⟩)))))))))))))))))))
      · exact br_f (by decide) (br_f (by decide) (br_f (by decide) (br_f (by decide) (br_f (by decide) (br_f (by decide) (br_f (by decide) (br_f (by decide) (br_f (by decide) (br_f (by decide) (br_t rfl (br_f (by decide) (br_f (by decide) (br_f (by decide) (br_f (by decide) (br_f (by decide) (br_f (by decide) (br_f (by decide) (br_f (by decide) (br_f (by decide) (br_f (by decide) (br_t rfl ⟨rfl, fin⟩)))))))))))))))))))))
      · exact br_f (by decide) (br_f (by decide) (br_f (by decide) (br_f (by decide) (br_f (by decide) (br_f (by decide) (br_f (by decide) (br_f (by decide) (br_f (by decide) (br_f (by decide) (br_f (by decide) (br_t rfl (gk_xneed (br_f (by decide) (br_f (by decide) (br_f (by decide) (br_f (by decide) (br_f (by decide) (br_f (by decide) (br_f (by decide) (br_f (by decide) (br_f (by decide) (br_f (by decide) (br_f (by decide) (br_t rfl (gk_yneed ⟨rfl, fin⟩)))))))))))))))))))))))))
end
section
theorem gk_adj {W p : Nat} (hW : 2 ≤ W ∧ W ≤ 4) : (p % W + 1 = W → (p + 1) / W = p / W + 1 ∧ (p + 1) % W = 0) ∧ (p % W + 1 ≠ W → (p + 1) / W = p / W ∧ (p + 1) % W = p % W + 1) := by
  have : W = 2 ∨ W = 3 ∨ W = 4 := by omega
  rcases this with rfl | rfl | rfl <;> constructor <;> intro h <;> omega
theorem gk_clampI (x : Int32) (lo hi : Nat) (h : lo ≤ hi) (hh : hi < 2 ^ 31) : ∃ m : Nat, lo ≤ m ∧ m ≤ hi ∧ ∀ F : Int32 → Prop, F (nI m) → ((nI lo ≤ x → ((x ≤ nI hi → F x) ∧ (¬ x ≤ nI hi → F (nI hi)))) ∧ (¬ nI lo ≤ x → F (nI lo))) := by
  by_cases h1 : nI lo ≤ x
  · by_cases h2 : x ≤ nI hi
    · have h0 : ¬ x < 0 := gk_nlt.mpr (gk_let (nI_pos' (by omega)) h1)
      obtain ⟨m, hm, rfl⟩ := nI_of h0
      rw [nI_leI (by omega) hm] at h1
      rw [nI_leI hm hh] at h2
      exact ⟨m, h1, h2, fun F k => br_t (nI_le h1 hm) (br_t (nI_le h2 hh) k)⟩
    · exact ⟨hi, h, Nat.le_refl _, fun F k => br_t h1 (br_f h2 k)⟩
  · exact ⟨lo, Nat.le_refl _, h, fun F k => br_f h1 k⟩
theorem gk_ones : ∀ n, n < 17 → ∀ i, i < 32 → bt (((1 : Int32) <<< (nI n &&& 31)) - 1) i = decide (i < n) := by decide +kernel
/-- what the constructor has laid for the processors below p -/
def gk_IV (W p : Nat) (gO gB gS md cu fr fw la oc rc : Nat → Int32) : Prop :=
  (∀ q, q < p → gO q = nI (q / W) ∧ gB q = (1 : Int32) <<< (nI (q % W) &&& 31)) ∧ (∀ g, g * W < p → gS g = nI (g * W)) ∧ (∀ q, md q = if q < p then 1 else 0)
  ∧ (∀ q, q < p → cu q = -1 ∧ fr q = -1 ∧ fw q = -1 ∧ la q = -1 ∧ oc q = 0 ∧ rc q = 0)
section
variable {P W N R : Nat} {gO gB gS md cu fr fw la oc rc : Nat → Int32}
theorem gk_i333 {post : SX → Prop} {J : Int32 → Int32 → Int32 → Int32 → Int32 → Int32 → Int32 → Int32 → Int32 → Int32 → Int32 → Int32 → Int32 → Int32 → Int32 → Int32 → Int32 → Int32 → Int32 → Int32 → Int32 → (Nat → Int32) → (Nat → Int32) → (Nat → Int32) → (Nat → Int32) → (Nat → Int32) → (Nat → Int32) → (Nat → Int32) → (Nat → Int32) → (Nat → Int32) → (Nat → Int32) → (Nat → Int32) → (Nat → Int32) → (Nat → Int32) → (Nat → Int32) → (Nat → Int32) → (Nat → Int32) → (Nat → Int32) → (Nat → Int32) → (Nat → Int32) → (Nat → Int32) → (Nat → Int32) → (Nat → Int32) → (Nat → Int32) → (Nat → Int32) → (Nat → Int32) → (Nat → Int32) → (Nat → Int32) → (Nat → Int32) → (Nat → Int32) → (Nat → Int32) → Prop} {p g b : Nat} (hW : 2 ≤ W ∧ W ≤ 4) (hp : p < 8) (hg : g = p / W) (hb : b = p % W)
    (h1 : ∀ q, q < p → gO q = nI (q / W) ∧ gB q = (1 : Int32) <<< (nI (q % W) &&& 31)) (h2 : ∀ g, g * W < p + 1 → gS g = nI (g * W)) (h3 : ∀ q, md q = if q < p then 1 else 0)
    (h4 : ∀ q, q < p → cu q = -1 ∧ fr q = -1 ∧ fw q = -1 ∧ la q = -1 ∧ oc q = 0 ∧ rc q = 0)
    (K : ∀ gO gB md cu fr fw la oc rc, gk_IV W (p + 1) gO gB gS md cu fr fw la oc rc → J (nI (p / W)) (nI (p % W + 1)) (nI (p + 1)) (nI P) (nI N) (nI R) 0 0 0 0 0 0 0 0 0 0 0 0 0 0 0 md (fun _ => 0) cu (fun _ => 0) (fun _ => 0) (fun _ => 0) gO gB gS (fun _ => 0) (fun _ => 0) (fun _ => 0) (fun _ => 0) (fun _ => 0) (fun _ => 0) (fun _ => 0) (fun _ => 0) (fun _ => 0) (fun _ => 0) (fun _ => 0) (fun _ => 0) (fun _ => 0) (fun _ => 0) (fun _ => 0) (fun _ => 0) fr fw la oc rc) :
    wX_init_333 post J (nI W) (nI g) (nI b) (nI p) (nI P) (nI N) (nI R) 0 0 0 0 0 0 0 0 0 0 0 0 0 0 0 md (fun _ => 0) cu (fun _ => 0) (fun _ => 0) (fun _ => 0) gO gB gS (fun _ => 0) (fun _ => 0) (fun _ => 0) (fun _ => 0) (fun _ => 0) (fun _ => 0) (fun _ => 0) (fun _ => 0) (fun _ => 0) (fun _ => 0) (fun _ => 0) (fun _ => 0) (fun _ => 0) (fun _ => 0) (fun _ => 0) (fun _ => 0) fr fw la oc rc := by
  subst hg hb
  have hip : vp_in (nI p) 8 := vp_in_nI hp (by omega)
  have cp : (nI p).toNatClampNeg = p := nI_clamp (by omega)
  refine ⟨hip, nm_r (e' := upd gO p (nI (p / W))) (by rw [cp]) ⟨hip, nm_r (e' := upd gB p ((1 : Int32) <<< (nI (p % W) &&& 31))) (by rw [cp]) (nm_r (nI_1 _) ⟨hip, nm_r (e' := upd md p 1) (by rw [cp]) ⟨hip, nm_r (e' := upd cu p (-1)) (by rw [cp]) ?_⟩⟩)⟩⟩
  refine ⟨hip, nm_r (e' := upd fr p (-1)) (by rw [cp]) ⟨hip, nm_r (e' := upd fw p (-1)) (by rw [cp]) ⟨hip, nm_r (e' := upd la p (-1)) (by rw [cp]) ⟨hip, nm_r (e' := upd oc p 0) (by rw [cp]) ⟨hip, nm_r (e' := upd rc p 0) (by rw [cp]) (nm_r (nI_1 p) (K _ _ _ _ _ _ _ _ _ ⟨?_, h2, ?_, ?_⟩))⟩⟩⟩⟩⟩
  · intro q hq
    by_cases e : q = p
    · subst e; rw [pk_us, pk_us]; exact ⟨rfl, rfl⟩
    · rw [pk_un e, pk_un e]; exact h1 q (by omega)
  · intro q
    by_cases e : q = p
    · subst e; rw [pk_us, if_pos (by omega)]
    · rw [pk_un e, h3 q]
      by_cases y : q < p
      · rw [if_pos y, if_pos (by omega)]
      · rw [if_neg y, if_neg (by omega)]
  · intro q hq
    by_cases e : q = p
    · subst e; rw [pk_us, pk_us, pk_us, pk_us, pk_us, pk_us]; exact ⟨rfl, rfl, rfl, rfl, rfl, rfl⟩
    · rw [pk_un e, pk_un e, pk_un e, pk_un e, pk_un e, pk_un e]; exact h4 q (by omega)
theorem gk_i319 {post : SX → Prop} {J : Int32 → Int32 → Int32 → Int32 → Int32 → Int32 → Int32 → Int32 → Int32 → Int32 → Int32 → Int32 → Int32 → Int32 → Int32 → Int32 → Int32 → Int32 → Int32 → Int32 → Int32 → (Nat → Int32) → (Nat → Int32) → (Nat → Int32) → (Nat → Int32) → (Nat → Int32) → (Nat → Int32) → (Nat → Int32) → (Nat → Int32) → (Nat → Int32) → (Nat → Int32) → (Nat → Int32) → (Nat → Int32) → (Nat → Int32) → (Nat → Int32) → (Nat → Int32) → (Nat → Int32) → (Nat → Int32) → (Nat → Int32) → (Nat → Int32) → (Nat → Int32) → (Nat → Int32) → (Nat → Int32) → (Nat → Int32) → (Nat → Int32) → (Nat → Int32) → (Nat → Int32) → (Nat → Int32) → (Nat → Int32) → (Nat → Int32) → (Nat → Int32) → Prop} {p g b : Nat} (hW : 2 ≤ W ∧ W ≤ 4) (hp : p < 8) (hg : g = p / W) (hb : b = p % W) (H : gk_IV W p gO gB gS md cu fr fw la oc rc)
    (K : ∀ gO gB gS md cu fr fw la oc rc, gk_IV W (p + 1) gO gB gS md cu fr fw la oc rc → J (nI (p / W)) (nI (p % W + 1)) (nI (p + 1)) (nI P) (nI N) (nI R) 0 0 0 0 0 0 0 0 0 0 0 0 0 0 0 md (fun _ => 0) cu (fun _ => 0) (fun _ => 0) (fun _ => 0) gO gB gS (fun _ => 0) (fun _ => 0) (fun _ => 0) (fun _ => 0) (fun _ => 0) (fun _ => 0) (fun _ => 0) (fun _ => 0) (fun _ => 0) (fun _ => 0) (fun _ => 0) (fun _ => 0) (fun _ => 0) (fun _ => 0) (fun _ => 0) (fun _ => 0) fr fw la oc rc) :
    wX_init_319 post J (nI W) (nI g) (nI b) (nI p) (nI P) (nI N) (nI R) 0 0 0 0 0 0 0 0 0 0 0 0 0 0 0 md (fun _ => 0) cu (fun _ => 0) (fun _ => 0) (fun _ => 0) gO gB gS (fun _ => 0) (fun _ => 0) (fun _ => 0) (fun _ => 0) (fun _ => 0) (fun _ => 0) (fun _ => 0) (fun _ => 0) (fun _ => 0) (fun _ => 0) (fun _ => 0) (fun _ => 0) (fun _ => 0) (fun _ => 0) (fun _ => 0) (fun _ => 0) fr fw la oc rc := by
  obtain ⟨h1, h2, h3, h4⟩ := H
  have hdm : p / W * W + p % W = p := gk_pq (by omega)
  have hg4 : g < 4 := by
    rw [hg, Nat.div_lt_iff_lt_mul (by omega)]; omega
  have hbW : b < W := by rw [hb]; exact Nat.mod_lt _ (by omega)
  by_cases z : b = 0
  · have c : (nI g).toNatClampNeg = g := nI_clamp (by omega)
    refine br_t (by rw [z]; rfl) ⟨vp_in_nI hg4 (by omega), nm_r (e' := upd gS g (nI p)) (by rw [c]) (gk_i333 hW hp hg hb h1 ?_ h3 h4 (fun gO gB md cu fr fw la oc rc H => K gO gB _ md cu fr fw la oc rc H))⟩
    intro g' hg'
    by_cases e : g' = g
    · subst e; rw [pk_us]; congr 1; rw [hg]; omega
    · rw [pk_un e]
      apply h2
      refine Nat.lt_of_le_of_ne (by omega) ?_
      intro y
      apply e
      rw [hg, ← y, Nat.mul_div_cancel _ (by omega)]
  · refine br_f ?_ (gk_i333 hW hp hg hb h1 ?_ h3 h4 (fun gO gB md cu fr fw la oc rc H => K gO gB _ md cu fr fw la oc rc H))
    · intro y
      exact z (gk_inj (y.trans nI_0.symm) (by omega) (by omega))
    · intro g' hg'
      apply h2
      refine Nat.lt_of_le_of_ne (by omega) ?_
      intro y
      apply z
      rw [hb, ← y, Nat.mul_mod_left]
theorem gk_i297 {post : SX → Prop} (hP : P ≤ 8) (hW : 2 ≤ W ∧ W ≤ 4) (hP2 : 2 ≤ P)
    (K : ∀ gO gB gS md cu fr fw la oc rc, gk_IV W P gO gB gS md cu fr fw la oc rc →
      ∃ n407 : Nat, wX_init_407 post (nI P) (nI N) (nI R) (nI ((P - 1) / W + 1)) (((1 : Int32) <<< (nI P &&& 31)) - 1) 0 0 0 0 0 0 0 0 0 0 0 0 0 n407 0 md (fun _ => 0) cu (fun _ => 0) (fun _ => 0) (fun _ => 0) gO gB gS (fun _ => 0) (fun _ => 0) (fun _ => 0) (fun _ => 0) (fun _ => 0) (fun _ => 0) (fun _ => 0) (fun _ => 0) (fun _ => 0) (fun _ => 0) (fun _ => 0) (fun _ => 0) (fun _ => 0) (fun _ => 0) (fun _ => 0) (fun _ => 0) fr fw la oc rc) :
    ∀ (n p x6 x7 : Nat) (gO gB gS md cu fr fw la oc rc : Nat → Int32), P - p < n → p ≤ P → gk_IV W p gO gB gS md cu fr fw la oc rc → ((p = 0 ∧ x6 = 0 ∧ x7 = 0) ∨ (∃ q, p = q + 1 ∧ x6 = q / W ∧ x7 = q % W + 1)) →
    wX_init_297 post (nI W) n (nI x6) (nI x7) (nI p) (nI P) (nI N) (nI R) 0 0 0 0 0 0 0 0 0 0 0 0 0 0 0 md (fun _ => 0) cu (fun _ => 0) (fun _ => 0) (fun _ => 0) gO gB gS (fun _ => 0) (fun _ => 0) (fun _ => 0) (fun _ => 0) (fun _ => 0) (fun _ => 0) (fun _ => 0) (fun _ => 0) (fun _ => 0) (fun _ => 0) (fun _ => 0) (fun _ => 0) (fun _ => 0) (fun _ => 0) (fun _ => 0) (fun _ => 0) fr fw la oc rc := by
  intro n
  induction n with
  | zero => intro p x6 x7 gO gB gS md cu fr fw la oc rc h; omega
  | succ n ih =>
    intro p x6 x7 gO gB gS md cu fr fw la oc rc hn hp H hx
    by_cases e : p = P
    · subst e
      refine br_t (gk_lerf _) (nm_r (e' := nI ((p - 1) / W + 1)) ?_ (nm_e (K _ _ _ _ _ _ _ _ _ _ H)))
      rcases hx with ⟨h0, _⟩ | ⟨q, h0, h1, _⟩
      · omega
      · rw [h1, h0, nI_1]; rfl
    · have hlt : p < P := by omega
      refine br_f (nI_ge hlt (by omega)) ?_
      have nxt : ∀ gO gB gS md cu fr fw la oc rc, gk_IV W (p + 1) gO gB gS md cu fr fw la oc rc → wX_init_297 post (nI W) n (nI (p / W)) (nI (p % W + 1)) (nI (p + 1)) (nI P) (nI N) (nI R) 0 0 0 0 0 0 0 0 0 0 0 0 0 0 0 md (fun _ => 0) cu (fun _ => 0) (fun _ => 0) (fun _ => 0) gO gB gS (fun _ => 0) (fun _ => 0) (fun _ => 0) (fun _ => 0) (fun _ => 0) (fun _ => 0) (fun _ => 0) (fun _ => 0) (fun _ => 0) (fun _ => 0) (fun _ => 0) (fun _ => 0) (fun _ => 0) (fun _ => 0) (fun _ => 0) (fun _ => 0) fr fw la oc rc := by
        intro gO gB gS md cu fr fw la oc rc H'
        exact ih (p + 1) _ _ _ _ _ _ _ _ _ _ _ _ (by omega) (by omega) H' (Or.inr ⟨p, rfl, rfl, rfl⟩)
      have hW31 : W < 2 ^ 31 := by omega
      rcases hx with ⟨h0, h1, h2⟩ | ⟨q, h0, h1, h2⟩
      · subst h0 h1 h2
        refine br_f ?_ (gk_i319 (p := 0) hW (by omega) (by simp) (by simp) H nxt)
        intro y
        have := gk_inj y (by omega) hW31
        omega
      · have ha := gk_adj (p := q) hW
        have hx7 : x7 < 2 ^ 31 := by rw [h2]; have := Nat.mod_lt q (show 0 < W by omega); omega
        by_cases y : x7 = W
        · have h3 := ha.1 (by omega)
          refine br_t (by rw [y]) (nm_r (nI_1 x6) (gk_i319 (g := x6 + 1) (b := 0) hW (by omega) (by rw [h0, h3.1, h1]) (by rw [h0, h3.2]) H nxt))
        · have h3 := ha.2 (by omega)
          refine br_f ?_ (gk_i319 hW (by omega) (by rw [h0, h3.1, h1]) (by rw [h0, h3.2, h2]) H nxt)
          intro w
          exact y (gk_inj w hx7 hW31)
end
end
section
section
variable {P W N R G : Nat} {mask fn hd : Int32} {gO gB gS md cu fr fw la oc rc : Nat → Int32}
theorem gk_i458 {post : SX → Prop} {lk rl : Nat → Int32} (hR : R ≤ 24)
    (K : ∀ nx, (∀ s, s < R → nx s = if s + 1 < R then nI (s + 1) else -1) → post (nI P, nI N, nI R, nI G, mask, 0, fn, -1, 0, 0, 0, 0, 0, 0, 0, 0, 0, 0, md, (fun _ => 0), cu, (fun _ => 0), (fun _ => 0), (fun _ => 0), gO, gB, gS, (fun _ => 0), (fun _ => 0), (fun _ => 0), (fun _ => 0), (fun _ => 0), lk, (fun _ => 0), rl, (fun _ => 0), (fun _ => 0), (fun _ => 0), (fun _ => 0), (fun _ => 0), (fun _ => 0), nx, (fun _ => 0), fr, fw, la, oc, rc)) :
    ∀ (n j : Nat) (nx : Nat → Int32), R - j < n → j ≤ R → (∀ s, s < j → nx s = if s + 1 < R then nI (s + 1) else -1) →
    wX_init_458 post (nI P) (nI N) (nI R) (nI G) mask 0 fn (-1) 0 0 0 0 0 0 0 0 0 0 n (nI j) md (fun _ => 0) cu (fun _ => 0) (fun _ => 0) (fun _ => 0) gO gB gS (fun _ => 0) (fun _ => 0) (fun _ => 0) (fun _ => 0) (fun _ => 0) lk (fun _ => 0) rl (fun _ => 0) (fun _ => 0) (fun _ => 0) (fun _ => 0) (fun _ => 0) (fun _ => 0) nx (fun _ => 0) fr fw la oc rc := by
  intro n
  induction n with
  | zero => intro j nx h; omega
  | succ n ih =>
    intro j nx hn hj o
    by_cases e : j = R
    · subst e
      exact br_t (gk_lerf _) (K nx o)
    · have hlt : j < R := by omega
      have hin : vp_in (nI j) 24 := vp_in_nI (by omega) (by omega)
      have c : (nI j).toNatClampNeg = j := nI_clamp (by omega)
      refine br_f (nI_ge hlt (by omega)) ?_
      have nxt : ∀ x, (x = if j + 1 < R then nI (j + 1) else -1) → ∀ s, s < j + 1 → upd nx j x s = if s + 1 < R then nI (s + 1) else -1 := by
        intro x hx s hs
        by_cases y : s = j
        · subst y; rw [pk_us]; exact hx
        · rw [pk_un y]; exact o s (by omega)
      by_cases z : R ≤ j + 1
      · refine br_t (by rw [nI_1]; exact nI_le z (by omega)) ⟨hin, nm_r (e' := upd nx j (-1)) (by rw [c]) (nm_r (nI_1 j) (ih (j + 1) _ (by omega) (by omega) (nxt _ ?_)))⟩
        rw [if_neg (by omega)]
      · refine br_f (by rw [nI_1]; exact nI_ge (by omega) (by omega)) ⟨hin, nm_r (e' := upd nx j (nI (j + 1))) (by rw [c, nI_1]) (nm_r (nI_1 j) (ih (j + 1) _ (by omega) (by omega) (nxt _ ?_)))⟩
        rw [if_pos (by omega)]
theorem gk_i407 {post : SX → Prop} (hN : N ≤ 16) (hR : R ≤ 24)
    (K : ∀ lk rl nx, (∀ s, s < N → lk s = -1 ∧ rl s = -1) → (∀ s, s < R → nx s = if s + 1 < R then nI (s + 1) else -1) → post (nI P, nI N, nI R, nI G, mask, 0, ((1 : Int32) <<< (nI N &&& 31)) - 1, -1, 0, 0, 0, 0, 0, 0, 0, 0, 0, 0, md, (fun _ => 0), cu, (fun _ => 0), (fun _ => 0), (fun _ => 0), gO, gB, gS, (fun _ => 0), (fun _ => 0), (fun _ => 0), (fun _ => 0), (fun _ => 0), lk, (fun _ => 0), rl, (fun _ => 0), (fun _ => 0), (fun _ => 0), (fun _ => 0), (fun _ => 0), (fun _ => 0), nx, (fun _ => 0), fr, fw, la, oc, rc)) :
    ∀ (n j : Nat) (lk rl : Nat → Int32), N - j < n → j ≤ N → (∀ s, s < j → lk s = -1 ∧ rl s = -1) →
    wX_init_407 post (nI P) (nI N) (nI R) (nI G) mask 0 0 0 0 0 0 0 0 0 0 0 0 0 n (nI j) md (fun _ => 0) cu (fun _ => 0) (fun _ => 0) (fun _ => 0) gO gB gS (fun _ => 0) (fun _ => 0) (fun _ => 0) (fun _ => 0) (fun _ => 0) lk (fun _ => 0) rl (fun _ => 0) (fun _ => 0) (fun _ => 0) (fun _ => 0) (fun _ => 0) (fun _ => 0) (fun _ => 0) (fun _ => 0) fr fw la oc rc := by
  intro n
  induction n with
  | zero => intro j lk rl h; omega
  | succ n ih =>
    intro j lk rl hn hj o
    by_cases e : j = N
    · subst e
      exact br_t (gk_lerf _) (nm_e ⟨R + 1, gk_i458 hR (fun nx hnx => K lk rl nx o hnx) (R + 1) 0 _ (by omega) (by omega) (fun s hs => absurd hs (by omega))⟩)
    · have hlt : j < N := by omega
      have hin : vp_in (nI j) 16 := vp_in_nI (by omega) (by omega)
      have c : (nI j).toNatClampNeg = j := nI_clamp (by omega)
      refine br_f (nI_ge hlt (by omega)) ⟨hin, nm_r (e' := upd lk j (-1)) (by rw [c]) ⟨hin, nm_r (e' := upd rl j (-1)) (by rw [c]) (nm_r (nI_1 j) (ih (j + 1) _ _ (by omega) (by omega) ?_))⟩⟩
      intro s hs
      by_cases y : s = j
      · subst y; rw [pk_us, pk_us]; exact ⟨rfl, rfl⟩
      · rw [pk_un y, pk_un y]; exact o s (by omega)
/-- Y's constructor -/
theorem gk_j260 {post : SY → Prop} (hP : P ≤ 8) (K : ∀ cu, (∀ q, q < P → cu q = -1) → post (nI P, nI W, nI N, nI R, 0, 0, 0, 0, 0, 0, fun q => if q < P then 1 else 0, (fun _ => 0), cu, (fun _ => 0), (fun _ => 0), (fun _ => 0), (fun _ => 0), (fun _ => 0), (fun _ => 0), (fun _ => 0), (fun _ => 0), (fun _ => 0), (fun _ => 0), (fun _ => 0), (fun _ => 0), (fun _ => 0), (fun _ => 0), (fun _ => 0), (fun _ => 0))) :
    ∀ (n j : Nat) (md cu : Nat → Int32), 8 - j < n → j ≤ 8 → (∀ q, md q = if q < j ∧ q < P then 1 else 0) → (∀ q, q < j → cu q = -1) →
    wY_init_260 post (nI P) (nI W) (nI N) (nI R) 0 0 0 0 0 0 n (nI j) md (fun _ => 0) cu (fun _ => 0) (fun _ => 0) (fun _ => 0) (fun _ => 0) (fun _ => 0) (fun _ => 0) (fun _ => 0) (fun _ => 0) (fun _ => 0) (fun _ => 0) (fun _ => 0) (fun _ => 0) (fun _ => 0) (fun _ => 0) (fun _ => 0) (fun _ => 0) := by
  intro n
  induction n with
  | zero => intro j md cu h; omega
  | succ n ih =>
    intro j md cu hn hj o1 o2
    by_cases e : j = 8
    · subst e
      have hm : md = fun q => if q < P then 1 else 0 := by
        funext q
        rw [o1 q]
        by_cases y : q < P
        · rw [if_pos ⟨by omega, y⟩, if_pos y]
        · rw [if_neg (fun h => y h.2), if_neg y]
      rw [hm]
      exact br_t (gk_lerf _) (K cu (fun q hq => o2 q (by omega)))
    · have hlt : j < 8 := by omega
      have hin : vp_in (nI j) 8 := vp_in_nI (by omega) (by omega)
      have c : (nI j).toNatClampNeg = j := nI_clamp (by omega)
      have nxt : ∀ x : Int32, (x = if j < P then 1 else 0) → wY_init_287 post (wY_init_260 post (nI P) (nI W) (nI N) (nI R) 0 0 0 0 0 0 n) (nI j) x (nI j) (nI P) (nI W) (nI N) (nI R) 0 0 0 0 0 0 md (fun _ => 0) cu (fun _ => 0) (fun _ => 0) (fun _ => 0) (fun _ => 0) (fun _ => 0) (fun _ => 0) (fun _ => 0) (fun _ => 0) (fun _ => 0) (fun _ => 0) (fun _ => 0) (fun _ => 0) (fun _ => 0) (fun _ => 0) (fun _ => 0) (fun _ => 0) := by
        intro x hx
        refine ⟨hin, nm_r (e' := upd md j x) (by rw [c]) ⟨hin, nm_r (e' := upd cu j (-1)) (by rw [c]) (nm_r (nI_1 j) (ih (j + 1) _ _ (by omega) (by omega) ?_ ?_))⟩⟩
        · intro q
          by_cases y : q = j
          · subst y; rw [pk_us, hx]
            by_cases w : q < P
            · rw [if_pos w, if_pos ⟨by omega, w⟩]
            · rw [if_neg w, if_neg (fun h => w h.2)]
          · rw [pk_un y, o1 q]
            by_cases w : q < j ∧ q < P
            · rw [if_pos w, if_pos ⟨by omega, w.2⟩]
            · rw [if_neg w, if_neg (fun h => w ⟨by omega, h.2⟩)]
        · intro q hq
          by_cases y : q = j
          · subst y; rw [pk_us]
          · rw [pk_un y]; exact o2 q (by omega)
      refine br_f (nI_ge (b := 8) hlt (by omega)) ?_
      by_cases z : P ≤ j
      · exact br_t (nI_le z (by omega)) (nxt 0 (by rw [if_neg (by omega)]))
      · exact br_f (nI_ge (by omega) (by omega)) (nxt 1 (by rw [if_pos (by omega)]))
end
theorem gk_fl {nx : Nat → Int32} {R : Nat} (h : ∀ s, s < R → nx s = if s + 1 < R then nI (s + 1) else -1) : ∀ m i, i + m = R → gk_sg nx (-1) (List.range' i m) := by
  intro m
  induction m with
  | zero => intro i _; trivial
  | succ m ih =>
    intro i hi
    rw [List.range'_succ]
    refine ⟨?_, ih (i + 1) (by omega)⟩
    rw [h i (by omega)]
    cases m with
    | zero => rw [if_neg (by omega)]; rfl
    | succ m => rw [if_pos (by omega), List.range'_succ]; rfl
theorem gk_yl_0 {f : Nat → Option gk_Rec} (h : ∀ i, f i = none) : ∀ n, gk_yl f n = [] := by
  intro n
  induction n with
  | zero => rfl
  | succ n ih => rw [gk_yl_s, ih, h n]; rfl
theorem gk_xcl {post : Int32 → Prop} {u : SX} {x lo hi v : Int32} (h : ∀ F : Int32 → Prop, F v → ((lo ≤ x → ((x ≤ hi → F x) ∧ (¬ x ≤ hi → F hi))) ∧ (¬ lo ≤ x → F lo))) (k : post v) : wpX_clamp post u x lo hi := by
  obtain ⟨y0, y1, y2, y3, y4, y5, y6, y7, y8, y9, y10, y11, y12, y13, y14, y15, y16, y17, y18, y19, y20, y21, y22, y23, y24, y25, y26, y27, y28, y29, y30, y31, y32, y33, y34, y35, y36, y37, y38, y39, y40, y41, y42, y43, y44, y45, y46, y47⟩ := u
  exact h post k
theorem i_vc0 (k0 : Int32) (k1 : Int32) (k2 : Int32) (k3 : Int32) : wpX_init (fun u => wpY_init (fun v => i_Rel 4 u v) k0 k1 k2 k3) k0 k1 k2 k3 := by
  obtain ⟨P, p1, p2, cP⟩ := gk_clampI k0 2 8 (by omega) (by omega)
  obtain ⟨W, w1, w2, cW⟩ := gk_clampI k1 2 4 (by omega) (by omega)
  obtain ⟨N, n1, n2, cN⟩ := gk_clampI k2 4 16 (by omega) (by omega)
  obtain ⟨R, r1, r2, cR⟩ := gk_clampI k3 4 24 (by omega) (by omega)
  unfold wpX_init
  refine gk_xcl cP ?_
  refine gk_xcl cN ?_
  refine gk_xcl cR ?_
  refine gk_xcl cW ?_
  refine ⟨P + 1, gk_i297 p2 ⟨w1, w2⟩ p1 ?_ (P + 1) 0 0 0 _ _ _ _ _ _ _ _ _ _ (by omega) (by omega) ⟨fun q hq => absurd hq (by omega), fun g hg => absurd hg (by omega), fun q => by rw [if_neg (by omega)], fun q hq => absurd hq (by omega)⟩ (Or.inl ⟨rfl, rfl, rfl⟩)⟩
  intro gO gB gS md cu fr fw la oc rc IV
  obtain ⟨i1, i2, i3, i4⟩ := IV
  refine ⟨N + 1, gk_i407 n2 r2 ?_ (N + 1) 0 _ _ (by omega) (by omega) (fun s hs => absurd hs (by omega))⟩
  intro lk rl nx hl hnx
  have hmd : md = fun q => if q < P then 1 else 0 := funext i3
  subst hmd
  unfold wpY_init
  refine cP (fun x => wY_init_178 _ k1 k2 k3 x 0 0 0 0 0 0 0 0 0 0 (fun _ => 0) (fun _ => 0) (fun _ => 0) (fun _ => 0) (fun _ => 0) (fun _ => 0) (fun _ => 0) (fun _ => 0) (fun _ => 0) (fun _ => 0) (fun _ => 0) (fun _ => 0) (fun _ => 0) (fun _ => 0) (fun _ => 0) (fun _ => 0) (fun _ => 0) (fun _ => 0) (fun _ => 0)) ?_
  refine cW (fun x => wY_init_201 _ k2 k3 x (nI P) 0 0 0 0 0 0 0 0 0 (fun _ => 0) (fun _ => 0) (fun _ => 0) (fun _ => 0) (fun _ => 0) (fun _ => 0) (fun _ => 0) (fun _ => 0) (fun _ => 0) (fun _ => 0) (fun _ => 0) (fun _ => 0) (fun _ => 0) (fun _ => 0) (fun _ => 0) (fun _ => 0) (fun _ => 0) (fun _ => 0) (fun _ => 0)) ?_
  refine cN (fun x => wY_init_226 _ k3 x (nI P) (nI W) 0 0 0 0 0 0 0 0 (fun _ => 0) (fun _ => 0) (fun _ => 0) (fun _ => 0) (fun _ => 0) (fun _ => 0) (fun _ => 0) (fun _ => 0) (fun _ => 0) (fun _ => 0) (fun _ => 0) (fun _ => 0) (fun _ => 0) (fun _ => 0) (fun _ => 0) (fun _ => 0) (fun _ => 0) (fun _ => 0) (fun _ => 0)) ?_
  refine cR (fun x => ∃ n260 : Nat, wY_init_260 _ (nI P) (nI W) (nI N) x 0 0 0 0 0 0 n260 0 (fun _ => 0) (fun _ => 0) (fun _ => 0) (fun _ => 0) (fun _ => 0) (fun _ => 0) (fun _ => 0) (fun _ => 0) (fun _ => 0) (fun _ => 0) (fun _ => 0) (fun _ => 0) (fun _ => 0) (fun _ => 0) (fun _ => 0) (fun _ => 0) (fun _ => 0) (fun _ => 0) (fun _ => 0)) ⟨9, gk_j260 p2 ?_ 9 0 _ _ (by omega) (by omega) (fun q => by rw [if_neg (by omega)]) (fun q hq => absurd hq (by omega))⟩
  intro ycu hycu
  refine gk_in (C := 0) (I := 0) (RL := []) (G := (P - 1) / W + 1) ⟨by omega, ?_, ?_, ?_, ?_, ?_, ?_, ?_, ?_, ?_, ?_, ?_⟩
  · have hG : 1 ≤ (P - 1) / W + 1 ∧ (P - 1) / W + 1 ≤ 4 ∧ P ≤ ((P - 1) / W + 1) * W ∧ ((P - 1) / W + 1 - 1) * W < P := by
      have : W = 2 ∨ W = 3 ∨ W = 4 := by omega
      rcases this with rfl | rfl | rfl <;> omega
    refine ⟨⟨p1, p2⟩, ⟨w1, w2⟩, ⟨n1, n2⟩, ⟨r1, r2⟩, hG, i1, ?_⟩
    intro g hg
    apply i2
    have h1 : g * W ≤ ((P - 1) / W + 1 - 1) * W := Nat.mul_le_mul_right W (by omega)
    omega
  · refine ⟨?_, ?_, ?_⟩
    · intro i hi
      rw [gk_ones P (by omega) i hi]
      by_cases y : i < P
      · simp [y]
      · simp [y]
    · intro p hp
      rw [hycu p hp, (i4 p hp).1]
      exact ⟨rfl, Or.inl rfl⟩
    · intro p hp; exact gk_lerf _
  · have hb : ∀ q, gk_hb P (fun _ => 0) q = false := by intro q; unfold gk_hb; simp
    refine ⟨?_, ?_, ?_, fun _ p _ => rfl⟩
    · intro g _ i _
      rw [hb, Bool.and_false]; exact b_0 i
    · intro g _ i _
      unfold gk_ib
      rw [hb, Bool.false_and, Bool.and_false]; exact b_0 i
    · intro g _
      rw [b_0]; simp
  · refine ⟨[], rfl, trivial, List.Pairwise.nil, fun n hn => by simp at hn, ?_, ?_, ?_, ?_, ?_⟩
    · intro n hn
      exact ⟨fun h => absurd h (show ¬ (0 : Int32) = 1 by decide), fun h => by simp at h⟩
    · intro n hn
      exact Or.inl ⟨rfl, rfl, rfl, (hl n hn).1⟩
    · intro n hn; exact Or.inl (hl n hn).1
    · intro n hn _; exact (hl n hn).2
    · intro i hi
      rw [gk_ones N (by omega) i hi]
      simp
  · exact ⟨List.Pairwise.nil, fun r hr => by simp at hr, fun h => absurd h (by decide), by decide, fun _ => by decide, by omega⟩
  · intro p hp
    obtain ⟨_, h1, h2, h3, h4, h5⟩ := i4 p hp
    rw [h1, h2, h3, h4, h5]
    exact ⟨[], [], ⟨rfl, fun s hs => by simp at hs, trivial, rfl, rfl, rfl, fun s hs => by simp at hs⟩, rfl, rfl, fun s hs => by simp at hs, fun s hs => by simp at hs⟩
  · refine ⟨List.range' 0 R, ?_, gk_fl hnx R 0 (by omega), List.nodup_range', by simp, ?_⟩
    · obtain ⟨R', rfl⟩ : ∃ R', R = R' + 1 := ⟨R - 1, by omega⟩
      rw [List.range'_succ]; rfl
    · intro s hs
      rw [List.mem_range'_1] at hs
      exact ⟨by omega, gk_lerf _, fun r hr => by simp at hr⟩
  · intro t h1 h2; omega
  · exact ⟨rfl, gk_lerf _, rfl⟩
  · show (gk_yl _ R).Perm []
    rw [gk_yl_0 (fun i => gk_f_n rfl)]
  · exact ⟨fun r hr => by simp at hr, fun n hn h => absurd h (show ¬ (0 : Int32) = 2 by decide)⟩
end
