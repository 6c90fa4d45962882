section
/-! sets of lines: the bits of a long -/
def la_b (x : Int64) (k : Nat) : Bool := x.toBitVec.getLsbD k
theorem la_b_or (x y : Int64) (k : Nat) : la_b (x ||| y) k = (la_b x k || la_b y k) := by
  unfold la_b; rw [Int64.toBitVec_or, BitVec.getLsbD_or]
theorem la_b_and (x y : Int64) (k : Nat) : la_b (x &&& y) k = (la_b x k && la_b y k) := by
  unfold la_b; rw [Int64.toBitVec_and, BitVec.getLsbD_and]
theorem la_b_xor (x y : Int64) (k : Nat) : la_b (x ^^^ y) k = (la_b x k ^^ la_b y k) := by
  unfold la_b; rw [Int64.toBitVec_xor, BitVec.getLsbD_xor]
theorem la_b_0 (k : Nat) : la_b 0 k = false := BitVec.getLsbD_zero
theorem la_b_m1 : ∀ k, k < 64 → la_b (-1) k = true := by decide +kernel
theorem la_b_not (x : Int64) {k : Nat} (h : k < 64) : la_b (x ^^^ (-1)) k = !(la_b x k) := by
  rw [la_b_xor, la_b_m1 k h]; cases la_b x k <;> rfl
theorem la_b_sh0 : ∀ n, n < 64 → ((1 : Int64) <<< ((nI n).toInt64 &&& 63)).toBitVec = BitVec.twoPow 64 n := by decide +kernel
theorem la_b_sh {n : Nat} (hn : n < 64) (k : Nat) : la_b ((1 : Int64) <<< ((nI n).toInt64 &&& 63)) k = decide (k = n) := by
  unfold la_b
  rw [la_b_sh0 n hn, BitVec.getLsbD_twoPow]
  by_cases h : n = k
  · subst h; simp [hn]
  · have h' : ¬ k = n := fun z => h z.symm
    simp [h, h']
theorem la_b_lo0 : ∀ n, n < 64 → (((1 : Int64) <<< ((nI n).toInt64 &&& 63)) - 1).toBitVec = BitVec.ofNat 64 (2 ^ n - 1) := by decide +kernel
theorem la_b_lo {n : Nat} (hn : n < 64) {k : Nat} (hk : k < 64) : la_b (((1 : Int64) <<< ((nI n).toInt64 &&& 63)) - 1) k = decide (k < n) := by
  unfold la_b
  rw [la_b_lo0 n hn, BitVec.getLsbD_ofNat, Nat.testBit_two_pow_sub_one]
  simp [hk]
theorem la_b_am : ∀ k, k < 64 → (((nI k).toInt64 &&& 63).toBitVec.smod 64).toNat = k := by decide +kernel
theorem la_b_sr {k : Nat} (hk : k < 64) (x : Int64) : (x >>> ((nI k).toInt64 &&& 63)).toBitVec.getLsbD 0 = la_b x k := by
  unfold la_b
  rw [Int64.toBitVec_shiftRight]
  show (x.toBitVec.sshiftRight (((nI k).toInt64 &&& 63).toBitVec.smod 64).toNat).getLsbD 0 = _
  rw [la_b_am k hk, BitVec.getLsbD_sshiftRight]
  simp [hk]
theorem la_b_one {k : Nat} (hk : k < 64) (x : Int64) : ((x >>> ((nI k).toInt64 &&& 63)).toInt32) &&& 1 = nI (la_b x k).toNat := by
  rw [← la_b_sr hk x]
  generalize (x >>> ((nI k).toInt64 &&& 63)) = y
  apply Int32.toBitVec_inj.mp
  rw [Int32.toBitVec_and, Int64.toBitVec_toInt32]
  show (_ &&& 1#32) = _
  rw [BitVec.and_one_eq_setWidth_ofBool_getLsbD, BitVec.getLsbD_signExtend]
  cases y.toBitVec.getLsbD 0 <;> rfl
theorem la_b_z {k : Nat} (hk : k < 64) (x : Int64) : ((x >>> ((nI k).toInt64 &&& 63)) &&& 1) = 0 ↔ la_b x k = false := by
  rw [← la_b_sr hk x]
  generalize (x >>> ((nI k).toInt64 &&& 63)) = y
  rw [← Int64.toBitVec_inj, Int64.toBitVec_and]
  show (_ &&& 1#64) = 0#64 ↔ _
  rw [BitVec.and_one_eq_setWidth_ofBool_getLsbD]
  cases y.toBitVec.getLsbD 0
  · exact ⟨fun _ => rfl, fun _ => by decide⟩
  · exact ⟨fun z => absurd z (by decide), fun z => absurd z (by decide)⟩
/-! sets of places: the bits of an int -/
def la_t (x : Int32) (k : Nat) : Bool := x.toBitVec.getLsbD k
theorem la_t_or (x y : Int32) (k : Nat) : la_t (x ||| y) k = (la_t x k || la_t y k) := by
  unfold la_t; rw [Int32.toBitVec_or, BitVec.getLsbD_or]
theorem la_t_orl {x : Int32} (y : Int32) {k : Nat} (h : la_t x k = true) : la_t (x ||| y) k = true := by
  rw [la_t_or, h]; rfl
theorem la_t_orr (x : Int32) {y : Int32} {k : Nat} (h : la_t y k = true) : la_t (x ||| y) k = true := by
  rw [la_t_or, h, Bool.or_true]
theorem la_t_sh : ∀ n, n < 32 → la_t ((1 : Int32) <<< (nI n &&& 31)) n = true := by decide +kernel
theorem la_t_am : ∀ k, k < 32 → ((nI k &&& 31).toBitVec.smod 32).toNat = k := by decide +kernel
theorem la_t_1 {k : Nat} (hk : k < 32) (x : Int32) : ((x >>> (nI k &&& 31)) &&& 1) = 1 ↔ la_t x k = true := by
  have e : (x >>> (nI k &&& 31)).toBitVec.getLsbD 0 = la_t x k := by
    unfold la_t
    rw [Int32.toBitVec_shiftRight]
    show (x.toBitVec.sshiftRight ((nI k &&& 31).toBitVec.smod 32).toNat).getLsbD 0 = _
    rw [la_t_am k hk, BitVec.getLsbD_sshiftRight]
    simp [hk]
  rw [← e]
  generalize (x >>> (nI k &&& 31)) = y
  rw [← Int32.toBitVec_inj, Int32.toBitVec_and]
  show (_ &&& 1#32) = 1#32 ↔ _
  rw [BitVec.and_one_eq_setWidth_ofBool_getLsbD]
  cases y.toBitVec.getLsbD 0
  · exact ⟨fun z => absurd z (by decide), fun z => absurd z (by decide)⟩
  · exact ⟨fun _ => rfl, fun _ => by decide⟩
/-! how many places below k are marked -/
def la_cnt (f : Nat → Bool) : Nat → Nat
  | 0 => 0
  | k + 1 => la_cnt f k + (f k).toNat
theorem la_cnt_le (f : Nat → Bool) (k : Nat) : la_cnt f k ≤ k := by
  induction k with
  | zero => exact Nat.le_refl 0
  | succ k ih =>
    have : (f k).toNat ≤ 1 := by cases f k <;> decide
    show la_cnt f k + (f k).toNat ≤ k + 1
    omega
theorem la_cnt_eq {f g : Nat → Bool} {k : Nat} (h : ∀ j, j < k → f j = g j) : la_cnt f k = la_cnt g k := by
  induction k with
  | zero => rfl
  | succ k ih =>
    show la_cnt f k + (f k).toNat = la_cnt g k + (g k).toNat
    rw [ih (fun j hj => h j (by omega)), h k (by omega)]
theorem la_cnt_add (f : Nat → Bool) {a b : Nat} (hab : a ≤ b) (h : ∀ j, a ≤ j → j < b → f j = false) : la_cnt f b = la_cnt f a := by
  induction b with
  | zero =>
    have : a = 0 := by omega
    rw [this]
  | succ b ih =>
    by_cases e : a = b + 1
    · rw [e]
    · show la_cnt f b + (f b).toNat = _
      rw [ih (by omega) (fun j h1 h2 => h j h1 (by omega)), h b (by omega) (by omega)]
      rfl
theorem la_cnt_all {k : Nat} : la_cnt (fun _ => true) k = k := by
  induction k with
  | zero => rfl
  | succ k ih =>
    show la_cnt (fun _ => true) k + 1 = k + 1
    rw [ih]
/-- a set cut at b: what lies in [a, b), in [b, c), in [a, c) -/
theorem la_cnt_cut (f : Nat → Bool) (a b c : Nat) (hab : a ≤ b) (hbc : b ≤ c) (k : Nat) :
    la_cnt (fun j => f j && decide (j < b) && !decide (j < a)) k + la_cnt (fun j => f j && decide (j < c) && !decide (j < b)) k = la_cnt (fun j => f j && decide (j < c) && !decide (j < a)) k := by
  induction k with
  | zero => rfl
  | succ k ih =>
    have e : (f k && decide (k < b) && !decide (k < a)).toNat + (f k && decide (k < c) && !decide (k < b)).toNat = (f k && decide (k < c) && !decide (k < a)).toNat := by
      cases f k
      · rfl
      · by_cases h1 : k < a
        · have h2 : k < b := by omega
          simp [h1, h2]
        · by_cases h2 : k < b
          · have h3 : k < c := by omega
            simp [h1, h2, h3]
          · simp [h1, h2]
    simp only [la_cnt]
    omega
/-! numbers in bytes -/
def la_dec (c : Int32) : Int32 := if (c &&& 1) = 0 then c >>> ((1 : Int32) &&& 31) else -((c + 1) >>> ((1 : Int32) &&& 31))
theorem la_dec_e : ∀ k, k < 1000 → la_dec (nI (2 * k)) = nI k := by decide +kernel
theorem la_dec_o : ∀ k, k < 1000 → la_dec (nI (2 * k + 1)) = -(nI (k + 1)) := by decide +kernel
theorem la_enc1 : ∀ c, c < 128 → (nI c).toInt8.toInt32 &&& 255 = nI c := by decide +kernel
theorem la_enc2 : ∀ c, c < 2000 → 128 ≤ c → ¬ ((((nI c &&& 127) ||| 128).toInt8.toInt32 &&& 255) < 128) ∧ ((((nI c &&& 127) ||| 128).toInt8.toInt32 &&& 255) &&& 127) ||| ((((nI c >>> ((7 : Int32) &&& 31)).toInt8.toInt32) &&& 255) <<< ((7 : Int32) &&& 31)) = nI c := by decide +kernel
/-- at p there are one or two bytes that say d; what follows them begins at q -/
def la_cn (f : Nat → Int32) (p : Nat) (d : Int32) (q : Nat) : Prop :=
  ((f p &&& 255) < 128 ∧ q = p + 1 ∧ la_dec (f p &&& 255) = d) ∨ (¬ (f p &&& 255) < 128 ∧ q = p + 2 ∧ la_dec (((f p &&& 255) &&& 127) ||| ((f (p + 1) &&& 255) <<< ((7 : Int32) &&& 31))) = d)
theorem la_cn_lt {f : Nat → Int32} {p q : Nat} {d : Int32} (h : la_cn f p d q) : p < q := by
  rcases h with ⟨_, h, _⟩ | ⟨_, h, _⟩ <;> omega
theorem la_cn_keep {f g : Nat → Int32} {p q : Nat} {d : Int32} (h : la_cn f p d q) (hk : ∀ j, j < q → g j = f j) : la_cn g p d q := by
  rcases h with ⟨h1, h2, h3⟩ | ⟨h1, h2, h3⟩
  · left
    rw [hk p (by omega)]
    exact ⟨h1, h2, h3⟩
  · right
    rw [hk p (by omega), hk (p + 1) (by omega)]
    exact ⟨h1, h2, h3⟩
theorem la_nneg {a b : Nat} (h : b ≤ a) : nI b - nI a = -(nI (a - b)) := by
  have e : nI a = nI b + nI (a - b) := by rw [nI_add]; congr 1; omega
  rw [e]
  grind
/-- one byte -/
theorem la_put1 {f : Nat → Int32} {p c : Nat} (h : c < 128) : la_cn (upd f p (nI c).toInt8.toInt32) p (la_dec (nI c)) (p + 1) := by
  left
  rw [pk_us, la_enc1 c h]
  exact ⟨nI_lt (b := 128) h (by decide), rfl, rfl⟩
theorem la_put2 {f : Nat → Int32} {p c : Nat} (h : 128 ≤ c) (h2 : c < 2000) :
    la_cn (upd (upd f p ((nI c &&& 127) ||| 128).toInt8.toInt32) (p + 1) (nI c >>> ((7 : Int32) &&& 31)).toInt8.toInt32) p (la_dec (nI c)) (p + 2) := by
  right
  have e := la_enc2 c h2 h
  rw [pk_us, pk_un (show p ≠ p + 1 by omega), pk_us]
  refine ⟨e.1, rfl, ?_⟩
  rw [e.2]
end
section
/-! the picture: items are words below 24 or numbers from 1000; a shape has 1000 where its lines have numbers -/
def la_item (x : Nat) : Prop := x < 24 ∨ (1000 ≤ x ∧ x < 2000)
def la_blk (x : Nat) : Nat := if 1000 ≤ x then 1000 else x
theorem la_blk_le (x : Nat) : la_blk x ≤ 1000 := by unfold la_blk; split <;> omega
theorem la_blk_n {x : Nat} (h : la_item x) : la_blk x = 1000 ↔ 1000 ≤ x := by
  unfold la_blk
  unfold la_item at h
  split <;> omega
theorem la_getD_map (L : List Nat) (i : Nat) : (L.map la_blk).getD i 0 = la_blk (L.getD i 0) := by
  rw [List.getD_eq_getElem?_getD, List.getD_eq_getElem?_getD, List.getElem?_map]
  cases L[i]? <;> rfl
theorem la_getD_mem {L : List Nat} {i : Nat} (h : i < L.length) : L.getD i 0 ∈ L := by
  rw [List.getD_eq_getElem?_getD, List.getElem?_eq_getElem h]
  exact List.getElem_mem h
theorem la_getD_ge {L : List Nat} {i : Nat} (h : L.length ≤ i) : L.getD i 0 = 0 := by
  rw [List.getD_eq_getElem?_getD, List.getElem?_eq_none h]
  rfl
theorem la_list_ext {A B : List Nat} (hl : A.length = B.length) (h : ∀ i, i < A.length → A.getD i 0 = B.getD i 0) : A = B := by
  apply List.ext_getElem hl
  intro i h1 h2
  have := h i h1
  rw [List.getD_eq_getElem?_getD, List.getD_eq_getElem?_getD, List.getElem?_eq_getElem h1, List.getElem?_eq_getElem h2] at this
  exact this
/-- the number that shape s has at i after the first k lines -/
def la_last (sh : Nat → Nat) (IT : Nat → List Nat) (s i : Nat) : Nat → Nat
  | 0 => 0
  | l + 1 => if sh l = s then (IT l).getD i 0 - 1000 else la_last sh IT s i l
theorem la_last_t {sh : Nat → Nat} {IT : Nat → List Nat} {s i l : Nat} (h : sh l = s) : la_last sh IT s i (l + 1) = (IT l).getD i 0 - 1000 := if_pos h
theorem la_last_f {sh : Nat → Nat} {IT : Nat → List Nat} {s i l : Nat} (h : ¬ sh l = s) : la_last sh IT s i (l + 1) = la_last sh IT s i l := if_neg h
theorem la_last_lt {sh : Nat → Nat} {IT : Nat → List Nat} {s i k : Nat} (h : ∀ l, l < k → (IT l).getD i 0 < 2000) : la_last sh IT s i k < 1000 := by
  induction k with
  | zero => exact Nat.zero_lt_succ _
  | succ k ih =>
    have h1 := h k (by omega)
    have h2 := ih (fun l hl => h l (by omega))
    unfold la_last
    split <;> omega
theorem la_last_eq {sh sh' : Nat → Nat} {IT IT' : Nat → List Nat} {s i k : Nat} (h : ∀ l, l < k → sh' l = sh l ∧ IT' l = IT l) : la_last sh' IT' s i k = la_last sh IT s i k := by
  induction k with
  | zero => rfl
  | succ k ih =>
    unfold la_last
    rw [ih (fun l hl => h l (by omega)), (h k (by omega)).1, (h k (by omega)).2]
/-! the invariant, part by part -/
def la_Ln (n m : Nat) (sh : Nat → Nat) (SL IT : Nat → List Nat) (TM : Nat → Nat) (a3 a4 : Nat → Int32) : Prop :=
  (∀ l, l < n → a4 l = nI (sh l) ∧ sh l < m ∧ (IT l).map la_blk = SL (sh l) ∧ ∀ x, x ∈ IT l → la_item x) ∧
  (∀ l, l < n → a3 l = nI (TM l) ∧ TM l ≤ 1000) ∧ (∀ l k, l ≤ k → k < n → TM l ≤ TM k)
def la_Sh (m : Nat) (SL : Nat → List Nat) (a7 a8 : Nat → Int32) : Prop :=
  ∀ s, s < m → a7 s = nI (SL s).length ∧ 1 ≤ (SL s).length ∧ (SL s).length ≤ 8 ∧ (∀ x, x ∈ SL s → x ≤ 1000) ∧ ∀ i, i < (SL s).length → a8 (8 * s + i) = nI ((SL s).getD i 0)
def la_Bt (n m : Nat) (sh : Nat → Nat) (a9 : Nat → Int64) : Prop :=
  ∀ s, s < m → ∀ k, k < 64 → la_b (a9 s) k = decide (k < n ∧ sh k = s)
def la_Lb (sh : Nat → Nat) (IT : Nat → List Nat) (a6 : Nat → Int32) (e l : Nat) (pos : Nat → Nat) (i : Nat) : Prop :=
  pos (i + 1) ≤ e ∧ (1000 ≤ (IT l).getD i 0 → la_cn a6 (pos i) (nI ((IT l).getD i 0 - 1000) - nI (la_last sh IT (sh l) i l)) (pos (i + 1))) ∧ (¬ 1000 ≤ (IT l).getD i 0 → pos (i + 1) = pos i)
def la_By (n : Nat) (sh : Nat → Nat) (IT : Nat → List Nat) (a5 a6 : Nat → Int32) : Prop :=
  ∃ e, a5 n = nI e ∧ e ≤ 16 * n ∧ ∀ l, l < n → ∃ pos : Nat → Nat, a5 l = nI (pos 0) ∧ ∀ i, i < (IT l).length → la_Lb sh IT a6 e l pos i
def la_Ls (n m : Nat) (sh : Nat → Nat) (SL IT : Nat → List Nat) (a10 : Nat → Int32) : Prop :=
  ∀ s, s < m → ∀ i, i < (SL s).length → (SL s).getD i 0 = 1000 → a10 (8 * s + i) = nI (la_last sh IT s i n)
/-- the last of p's children below k -/
def la_lc (par : Nat → Nat) (p : Nat) : Nat → Int32
  | 0 => -1
  | k + 1 => if 1 ≤ k ∧ par k = p then nI k else la_lc par p k
def la_Tq (m nn : Nat) (SL : Nat → List Nat) (a12 a13 a14 a15 : Nat → Int32) (par : Nat → Nat) (path : Nat → List Nat) : Prop :=
  1 ≤ nn ∧ path 0 = [] ∧ (∀ c, 1 ≤ c → c < nn → par c < c ∧ ∃ x, x ≤ 1000 ∧ a12 c = nI x ∧ path c = path (par c) ++ [x]) ∧
  (∀ c d, c < nn → d < nn → path c = path d → c = d) ∧ (∀ p, p < nn → a13 p = la_lc par p nn) ∧ (∀ c, 1 ≤ c → c < nn → a14 c = la_lc par (par c) c) ∧
  (∀ c, c < nn → a15 c = -1 ∨ ∃ s, s < m ∧ a15 c = nI s ∧ SL s = path c) ∧ (∀ s, s < m → ∃ c, c < nn ∧ a15 c = nI s ∧ SL s = path c)
def la_Tr (m nn : Nat) (SL : Nat → List Nat) (a12 a13 a14 a15 : Nat → Int32) : Prop := ∃ par path, la_Tq m nn SL a12 a13 a14 a15 par path
/-- all but 'each shape has a line' -/
def la_D (n m nn : Nat) (sh : Nat → Nat) (SL IT : Nat → List Nat) (TM : Nat → Nat) (a3 a4 a5 a6 a7 a8 : Nat → Int32) (a9 : Nat → Int64) (a10 a12 a13 a14 a15 : Nat → Int32) : Prop :=
  la_Ln n m sh SL IT TM a3 a4 ∧ la_Sh m SL a7 a8 ∧ la_Bt n m sh a9 ∧ la_By n sh IT a5 a6 ∧ la_Ls n m sh SL IT a10 ∧ la_Tr m nn SL a12 a13 a14 a15
def la_C (n m nn : Nat) (sh : Nat → Nat) (SL IT : Nat → List Nat) (TM : Nat → Nat) (a3 a4 a5 a6 a7 a8 : Nat → Int32) (a9 : Nat → Int64) (a10 a12 a13 a14 a15 : Nat → Int32) : Prop :=
  la_D n m nn sh SL IT TM a3 a4 a5 a6 a7 a8 a9 a10 a12 a13 a14 a15 ∧ n ≤ 60 ∧ m ≤ n ∧ nn ≤ 1 + 8 * n ∧ ∀ s, s < m → ∃ l, l < n ∧ sh l = s
section
variable {n m nn : Nat} {sh : Nat → Nat} {SL IT : Nat → List Nat} {TM : Nat → Nat} {a3 a4 a5 a6 a7 a8 a10 a12 a13 a14 a15 : Nat → Int32} {a9 : Nat → Int64}
theorem la_Ln_len (h : la_Ln n m sh SL IT TM a3 a4) {l : Nat} (hl : l < n) : (IT l).length = (SL (sh l)).length := by
  rw [← (h.1 l hl).2.2.1, List.length_map]
theorem la_Ln_bl (h : la_Ln n m sh SL IT TM a3 a4) {l i : Nat} (hl : l < n) (hi : i < (IT l).length) : (SL (sh l)).getD i 0 = 1000 ↔ 1000 ≤ (IT l).getD i 0 := by
  rw [← (h.1 l hl).2.2.1, la_getD_map]
  exact la_blk_n ((h.1 l hl).2.2.2 _ (la_getD_mem hi))
theorem la_Ln_2000 (h : la_Ln n m sh SL IT TM a3 a4) {l : Nat} (hl : l < n) (i : Nat) : (IT l).getD i 0 < 2000 := by
  by_cases hi : i < (IT l).length
  · have := (h.1 l hl).2.2.2 _ (la_getD_mem hi)
    unfold la_item at this
    omega
  · rw [la_getD_ge (by omega)]
    omega
theorem la_Ln_last (h : la_Ln n m sh SL IT TM a3 a4) {k : Nat} (hk : k ≤ n) (s i : Nat) : la_last sh IT s i k < 1000 :=
  la_last_lt (fun l hl => la_Ln_2000 h (by omega) i)
theorem la_Sh_1000 (h : la_Sh m SL a7 a8) {s : Nat} (hs : s < m) (i : Nat) : (SL s).getD i 0 ≤ 1000 := by
  by_cases hi : i < (SL s).length
  · exact (h s hs).2.2.2.1 _ (la_getD_mem hi)
  · rw [la_getD_ge (by omega)]
    omega
theorem la_Tr_inj (h : la_Tr m nn SL a12 a13 a14 a15) (hm : m ≤ 60) {s t : Nat} (hs : s < m) (ht : t < m) (e : SL s = SL t) : s = t := by
  obtain ⟨par, path, h⟩ := h
  obtain ⟨c, c1, c2, c3⟩ := h.2.2.2.2.2.2.2 s hs
  obtain ⟨d, d1, d2, d3⟩ := h.2.2.2.2.2.2.2 t ht
  have := h.2.2.2.1 c d c1 d1 (by rw [← c3, ← d3, e])
  subst this
  rw [c2] at d2
  exact (nI_eq (by omega) (by omega)).mp d2
/-- what is asked of the lines below n alone -/
theorem la_C_it {IT' : Nat → List Nat} {TM' : Nat → Nat} (h : la_C n m nn sh SL IT TM a3 a4 a5 a6 a7 a8 a9 a10 a12 a13 a14 a15) (h1 : ∀ l, l < n → IT' l = IT l) (h2 : ∀ l, l < n → TM' l = TM l) :
    la_C n m nn sh SL IT' TM' a3 a4 a5 a6 a7 a8 a9 a10 a12 a13 a14 a15 := by
  obtain ⟨⟨⟨p1, p2, p3⟩, hS, hB, ⟨e, e1, e2, e3⟩, hL, hT⟩, q1, q2, q3, q4⟩ := h
  have E : ∀ s i k, k ≤ n → la_last sh IT' s i k = la_last sh IT s i k := fun s i k hk => la_last_eq (fun l hl => ⟨rfl, h1 l (by omega)⟩)
  refine ⟨⟨⟨?_, ?_, ?_⟩, hS, hB, ⟨e, e1, e2, ?_⟩, ?_, hT⟩, q1, q2, q3, q4⟩
  · intro l hl
    rw [h1 l hl]
    exact p1 l hl
  · intro l hl
    rw [h2 l hl]
    exact p2 l hl
  · intro l k hlk hk
    rw [h2 l (by omega), h2 k hk]
    exact p3 l k hlk hk
  · intro l hl
    obtain ⟨pos, r1, r2⟩ := e3 l hl
    refine ⟨pos, r1, fun i hi => ?_⟩
    rw [h1 l hl] at hi
    unfold la_Lb
    rw [h1 l hl, E _ _ l (by omega)]
    exact r2 i hi
  · intro s hs i hi hb
    rw [E _ _ n (Nat.le_refl n)]
    exact hL s hs i hi hb
end
end
section
/-! a loop of k changing values, curried -/
theorem la_lp2 {A1 A2 : Type} (W : Nat → Nat → A1 → A2 → Prop) (I : Nat → A1 → A2 → Prop) (e i0 : Nat) (a1 : A1) (a2 : A2) (hi : i0 ≤ e) (h0 : I i0 a1 a2) (hx : ∀ n a1 a2, I e a1 a2 → W (n + 1) e a1 a2)
    (hs : ∀ n i a1 a2, i < e → I i a1 a2 → (∀ b1 b2, I (i + 1) b1 b2 → W n (i + 1) b1 b2) → W (n + 1) i a1 a2) : ∃ n, W n i0 a1 a2 :=
  pk_loop (σ := A1 × A2) (fun n i s => W n i s.1 s.2) (fun i s => I i s.1 s.2) e i0 (a1, a2) hi h0 (fun n s h => hx n s.1 s.2 h) (fun n i s hi h hk => hs n i s.1 s.2 hi h (fun b1 b2 h' => hk (b1, b2) h'))
theorem la_lp3 {A1 A2 A3 : Type} (W : Nat → Nat → A1 → A2 → A3 → Prop) (I : Nat → A1 → A2 → A3 → Prop) (e i0 : Nat) (a1 : A1) (a2 : A2) (a3 : A3) (hi : i0 ≤ e) (h0 : I i0 a1 a2 a3) (hx : ∀ n a1 a2 a3, I e a1 a2 a3 → W (n + 1) e a1 a2 a3)
    (hs : ∀ n i a1 a2 a3, i < e → I i a1 a2 a3 → (∀ b1 b2 b3, I (i + 1) b1 b2 b3 → W n (i + 1) b1 b2 b3) → W (n + 1) i a1 a2 a3) : ∃ n, W n i0 a1 a2 a3 :=
  pk_loop (σ := A1 × A2 × A3) (fun n i s => W n i s.1 s.2.1 s.2.2) (fun i s => I i s.1 s.2.1 s.2.2) e i0 (a1, a2, a3) hi h0 (fun n s h => hx n s.1 s.2.1 s.2.2 h) (fun n i s hi h hk => hs n i s.1 s.2.1 s.2.2 hi h (fun b1 b2 b3 h' => hk (b1, b2, b3) h'))
theorem la_lp4 {A1 A2 A3 A4 : Type} (W : Nat → Nat → A1 → A2 → A3 → A4 → Prop) (I : Nat → A1 → A2 → A3 → A4 → Prop) (e i0 : Nat) (a1 : A1) (a2 : A2) (a3 : A3) (a4 : A4) (hi : i0 ≤ e) (h0 : I i0 a1 a2 a3 a4) (hx : ∀ n a1 a2 a3 a4, I e a1 a2 a3 a4 → W (n + 1) e a1 a2 a3 a4)
    (hs : ∀ n i a1 a2 a3 a4, i < e → I i a1 a2 a3 a4 → (∀ b1 b2 b3 b4, I (i + 1) b1 b2 b3 b4 → W n (i + 1) b1 b2 b3 b4) → W (n + 1) i a1 a2 a3 a4) : ∃ n, W n i0 a1 a2 a3 a4 :=
  pk_loop (σ := A1 × A2 × A3 × A4) (fun n i s => W n i s.1 s.2.1 s.2.2.1 s.2.2.2) (fun i s => I i s.1 s.2.1 s.2.2.1 s.2.2.2) e i0 (a1, a2, a3, a4) hi h0 (fun n s h => hx n s.1 s.2.1 s.2.2.1 s.2.2.2 h) (fun n i s hi h hk => hs n i s.1 s.2.1 s.2.2.1 s.2.2.2 hi h (fun b1 b2 b3 b4 h' => hk (b1, b2, b3, b4) h'))
theorem la_lp6 {A1 A2 A3 A4 A5 A6 : Type} (W : Nat → Nat → A1 → A2 → A3 → A4 → A5 → A6 → Prop) (I : Nat → A1 → A2 → A3 → A4 → A5 → A6 → Prop) (e i0 : Nat) (a1 : A1) (a2 : A2) (a3 : A3) (a4 : A4) (a5 : A5) (a6 : A6) (hi : i0 ≤ e) (h0 : I i0 a1 a2 a3 a4 a5 a6) (hx : ∀ n a1 a2 a3 a4 a5 a6, I e a1 a2 a3 a4 a5 a6 → W (n + 1) e a1 a2 a3 a4 a5 a6)
    (hs : ∀ n i a1 a2 a3 a4 a5 a6, i < e → I i a1 a2 a3 a4 a5 a6 → (∀ b1 b2 b3 b4 b5 b6, I (i + 1) b1 b2 b3 b4 b5 b6 → W n (i + 1) b1 b2 b3 b4 b5 b6) → W (n + 1) i a1 a2 a3 a4 a5 a6) : ∃ n, W n i0 a1 a2 a3 a4 a5 a6 :=
  pk_loop (σ := A1 × A2 × A3 × A4 × A5 × A6) (fun n i s => W n i s.1 s.2.1 s.2.2.1 s.2.2.2.1 s.2.2.2.2.1 s.2.2.2.2.2) (fun i s => I i s.1 s.2.1 s.2.2.1 s.2.2.2.1 s.2.2.2.2.1 s.2.2.2.2.2) e i0 (a1, a2, a3, a4, a5, a6) hi h0 (fun n s h => hx n s.1 s.2.1 s.2.2.1 s.2.2.2.1 s.2.2.2.2.1 s.2.2.2.2.2 h) (fun n i s hi h hk => hs n i s.1 s.2.1 s.2.2.1 s.2.2.2.1 s.2.2.2.2.1 s.2.2.2.2.2 hi h (fun b1 b2 b3 b4 b5 b6 h' => hk (b1, b2, b3, b4, b5, b6) h'))
/-! walks that read -/
theorem la_ones {post : Int32 → Prop} {x : Int64} (H : post (nI (la_cnt (la_b x) 60))) : wpX_ones post () x :=
  pk_loop (σ := Unit) (fun n i _ => wX_ones_4 post x n (nI (la_cnt (la_b x) i)) (nI i)) (fun _ _ => True) 60 0 () (by omega) trivial
    (fun n _ _ => pk_le 60 60 (fun _ => H) (fun z => absurd z (by omega)))
    (fun n i _ hi _ hw => pk_le 60 i (fun z => absurd z (by omega)) (fun _ => nm_r (e' := nI (la_cnt (la_b x) (i + 1))) (by rw [la_b_one (by omega), nI_add]; rfl) (nm_r (nI_1 i) (hw () trivial))))
theorem la_lowest {post : Int32 → Prop} {x : Int64} {k : Nat} (hk : k < 60) (h1 : la_b x k = true) (h0 : ∀ j, j < k → la_b x j = false) (H : post (nI k)) : wpX_lowest post () x :=
  pk_loop (σ := Unit) (fun n i _ => wX_lowest_2 post x n (nI i)) (fun _ _ => True) k 0 () (by omega) trivial
    (fun n _ _ => pk_le 60 k (fun z => absurd z (by omega)) (fun _ => br_f (by rw [la_b_z (by omega), h1]; decide) H))
    (fun n i _ hi _ hw => pk_le 60 i (fun z => absurd z (by omega)) (fun _ => br_t ((la_b_z (by omega) x).mpr (h0 i hi)) (nm_r (nI_1 i) (hw () trivial))))
/-- how many lines below n have shape s -/
def la_mem (sh : Nat → Nat) (n s : Nat) : Nat := la_cnt (fun k => decide (sh k = s)) n
def la_fst (sh : Nat → Nat) (s f : Nat) : Prop := sh f = s ∧ ∀ j, j < f → sh j ≠ s
def la_Nm (sh : Nat → Nat) (SL IT : Nat → List Nat) (s k : Nat) (c : Nat → Int32) : Prop :=
  ∀ i, i < (SL s).length → (SL s).getD i 0 = 1000 → c i = nI (la_last sh IT s i k)
theorem la_8 (s i : Nat) : (8 : Int32) * nI s + nI i = nI (8 * s + i) := by
  rw [show (8 : Int32) = nI 8 from rfl, pk_mul, nI_add]
section
variable {dc pc ln sp nd sf fr : Int32} {ft : Int64} {a1 a2 a3 a4 a5 a6 a7 a8 a10 a12 a13 a14 a15 a16 a17 a18 a19 a20 : Nat → Int32} {a9 a11 : Nat → Int64}
variable {n m nn : Nat} {sh : Nat → Nat} {SL IT : Nat → List Nat} {TM : Nat → Nat}
theorem la_Bt_cnt (hB : la_Bt n m sh a9) (hn : n ≤ 60) {s : Nat} (hs : s < m) : la_cnt (la_b (a9 s)) 60 = la_mem sh n s := by
  rw [la_cnt_add (la_b (a9 s)) (a := n) hn (fun j h1 h2 => by rw [hB s hs j (by omega)]; exact decide_eq_false (by omega))]
  refine la_cnt_eq (fun j hj => ?_)
  rw [hB s hs j (by omega)]
  simp [hj]
theorem la_isLine {post : Int32 → Prop} {l : Nat} (hl : l < n) (hn : n ≤ 60) (H : post 1) : wpX_isLine post (dc, pc, nI n, sp, nd, sf, ft, fr, a1, a2, a3, a4, a5, a6, a7, a8, a9, a10, a11, a12, a13, a14, a15, a16, a17, a18, a19, a20) (nI l) :=
  br_f (nI_pos (by omega)) (br_f (nI_ge hl (by omega)) H)
theorem la_time {post : Int32 → Prop} {l : Nat} (h : la_Ln n m sh SL IT TM a3 a4) (hn : n ≤ 60) (hl : l < n) (H : post (nI (TM l))) : wpX_time post (dc, pc, nI n, sp, nd, sf, ft, fr, a1, a2, a3, a4, a5, a6, a7, a8, a9, a10, a11, a12, a13, a14, a15, a16, a17, a18, a19, a20) (nI l) := by
  unfold wpX_time
  exact la_isLine hl hn (br_f (by decide) ⟨pk_in l 60 (by omega), by rw [nI_clamp (by omega), (h.2.1 l hl).1]; exact H⟩)
theorem la_members {post : Int32 → Prop} {l : Nat} (hC : la_C n m nn sh SL IT TM a3 a4 a5 a6 a7 a8 a9 a10 a12 a13 a14 a15) (hl : l < n) (H : post (nI (la_mem sh n (sh l)))) : wpX_members post (dc, pc, nI n, sp, nd, sf, ft, fr, a1, a2, a3, a4, a5, a6, a7, a8, a9, a10, a11, a12, a13, a14, a15, a16, a17, a18, a19, a20) (nI l) := by
  have hn := hC.2.1
  have hm := hC.2.2.1
  have h := hC.1.1.1 l hl
  unfold wpX_members
  refine la_isLine hl hn (br_f (by decide) ⟨pk_in l 60 (by omega), ?_⟩)
  rw [nI_clamp (show l < 2 ^ 31 by omega), h.1]
  refine ⟨pk_in (sh l) 60 (by omega), ?_⟩
  rw [nI_clamp (show sh l < 2 ^ 31 by omega)]
  refine la_ones ?_
  rw [la_Bt_cnt hC.1.2.2.1 hn h.2.1]
  exact H
theorem la_firstOf {post : Int32 → Prop} {s f : Nat} (hC : la_C n m nn sh SL IT TM a3 a4 a5 a6 a7 a8 a9 a10 a12 a13 a14 a15) (hs : s < m) (hf : f < n) (h : la_fst sh s f) (H : post (nI f)) : wpX_firstOf post (dc, pc, ln, sp, nd, sf, ft, fr, a1, a2, a3, a4, a5, a6, a7, a8, a9, a10, a11, a12, a13, a14, a15, a16, a17, a18, a19, a20) (nI s) := by
  have hn := hC.2.1
  have hm := hC.2.2.1
  refine ⟨pk_in s 60 (by omega), ?_⟩
  rw [nI_clamp (show s < 2 ^ 31 by omega)]
  refine la_lowest (k := f) (by omega) ?_ (fun j hj => ?_) H
  · rw [hC.1.2.2.1 s hs f (by omega)]
    exact decide_eq_true ⟨hf, h.1⟩
  · rw [hC.1.2.2.1 s hs j (by omega)]
    exact decide_eq_false (fun z => h.2 j hj z.2)
theorem la_fst_ex (hC : la_C n m nn sh SL IT TM a3 a4 a5 a6 a7 a8 a9 a10 a12 a13 a14 a15) {s : Nat} (hs : s < m) : ∃ f, f < n ∧ la_fst sh s f := by
  obtain ⟨f, h1, h2⟩ := pk_least (fun f => f < n ∧ sh f = s) (hC.2.2.2.2 s hs)
  exact ⟨f, h1.1, h1.2, fun j hj z => h2 j hj ⟨by omega, z⟩⟩
theorem la_group {post : Int32 → Prop} {l f : Nat} (hC : la_C n m nn sh SL IT TM a3 a4 a5 a6 a7 a8 a9 a10 a12 a13 a14 a15) (hl : l < n) (hf : f < n) (h : la_fst sh (sh l) f) (H : post (nI f)) : wpX_group post (dc, pc, nI n, sp, nd, sf, ft, fr, a1, a2, a3, a4, a5, a6, a7, a8, a9, a10, a11, a12, a13, a14, a15, a16, a17, a18, a19, a20) (nI l) := by
  have hn := hC.2.1
  have g := hC.1.1.1 l hl
  unfold wpX_group
  refine la_isLine hl hn (br_f (by decide) ⟨pk_in l 60 (by omega), ?_⟩)
  rw [nI_clamp (show l < 2 ^ 31 by omega), g.1]
  exact la_firstOf hC g.2.1 hf h H
theorem la_length {post : Int32 → Prop} {l : Nat} (hC : la_C n m nn sh SL IT TM a3 a4 a5 a6 a7 a8 a9 a10 a12 a13 a14 a15) (hl : l < n) (H : post (nI (IT l).length)) : wpX_length post (dc, pc, nI n, sp, nd, sf, ft, fr, a1, a2, a3, a4, a5, a6, a7, a8, a9, a10, a11, a12, a13, a14, a15, a16, a17, a18, a19, a20) (nI l) := by
  have hn := hC.2.1
  have hm := hC.2.2.1
  have g := hC.1.1.1 l hl
  unfold wpX_length
  refine la_isLine hl hn (br_f (by decide) ⟨pk_in l 60 (by omega), ?_⟩)
  rw [nI_clamp (show l < 2 ^ 31 by omega), g.1]
  refine ⟨pk_in (sh l) 60 (by omega), ?_⟩
  rw [nI_clamp (show sh l < 2 ^ 31 by omega), (hC.1.2.1 _ g.2.1).1, ← la_Ln_len hC.1.1 hl]
  exact H
theorem la_countBelow {post : Int32 → Prop} {t : Nat} (h : la_Ln n m sh SL IT TM a3 a4) (hn : n ≤ 60) (ht : t < 2 ^ 31)
    (H : ∀ c, c ≤ n → (∀ l, l < c → TM l < t) → (∀ l, c ≤ l → l < n → t ≤ TM l) → post (nI c)) : wpX_countBelow post (dc, pc, nI n, sp, nd, sf, ft, fr, a1, a2, a3, a4, a5, a6, a7, a8, a9, a10, a11, a12, a13, a14, a15, a16, a17, a18, a19, a20) (nI t) :=
  loop_m (σ := Nat × Nat) (fun k s => wX_countBelow_7 post (nI t) dc pc (nI n) sp nd sf ft fr a1 a2 a3 a4 a5 a6 a7 a8 a9 a10 a11 a12 a13 a14 a15 a16 a17 a18 a19 a20 k (nI s.1) (nI s.2))
    (fun s => s.1 ≤ s.2 ∧ s.2 ≤ n ∧ (∀ l, l < s.1 → TM l < t) ∧ (∀ l, s.2 ≤ l → l < n → t ≤ TM l)) (fun s => s.2 - s.1)
    (fun k s hI hk => by
      obtain ⟨lo, hi⟩ := s
      obtain ⟨i1, i2, i3, i4⟩ := hI
      dsimp only at i1 i2 i3 i4 hk ⊢
      refine pk_le hi lo (fun z => H lo (by omega) i3 (fun l q1 q2 => i4 l (by omega) q2)) (fun z => nm_r (e' := nI ((lo + hi) / 2)) (by rw [nI_add, pk_shrN (by omega) _ 1 (by decide)]) ⟨pk_in ((lo + hi) / 2) 60 (by omega), ?_⟩)
      rw [nI_clamp (show (lo + hi) / 2 < 2 ^ 31 by omega), (h.2.1 ((lo + hi) / 2) (by omega)).1]
      have hT := (h.2.1 ((lo + hi) / 2) (by omega)).2
      refine pk_le t (TM ((lo + hi) / 2)) (fun z2 => ?_) (fun z2 => nm_r (nI_1 _) ?_)
      · exact hk (lo, (lo + hi) / 2) ⟨by show lo ≤ _; omega, by show _ ≤ n; omega, i3, fun l q1 q2 => Nat.le_trans z2 (h.2.2 _ l q1 q2)⟩ (by show (lo + hi) / 2 - lo < hi - lo; omega)
      · exact hk ((lo + hi) / 2 + 1, hi) ⟨by show (lo + hi) / 2 + 1 ≤ hi; omega, i2, fun l q1 => Nat.lt_of_le_of_lt (h.2.2 l _ (by dsimp only at q1; omega) (by omega)) z2, i4⟩ (by show hi - ((lo + hi) / 2 + 1) < hi - lo; omega))
    (0, n) ⟨Nat.zero_le _, Nat.le_refl _, fun l hl => absurd hl (Nat.not_lt_zero l), fun l q1 q2 => absurd q2 (Nat.not_lt.mpr q1)⟩
theorem la_63 {post : Int32 → St1 → Prop} {x : Int32} (H : post (la_dec x) (dc, pc, ln, sp, nd, sf, ft, fr, a1, a2, a3, a4, a5, a6, a7, a8, a9, a10, a11, a12, a13, a14, a15, a16, a17, a18, a19, a20)) : wX_takeNumber_63 post x dc pc ln sp nd sf ft fr a1 a2 a3 a4 a5 a6 a7 a8 a9 a10 a11 a12 a13 a14 a15 a16 a17 a18 a19 a20 := by
  unfold wX_takeNumber_63
  unfold la_dec at H
  exact br_c (fun h => by rw [if_pos h] at H; exact H) (fun h => by rw [if_neg h] at H; exact H)
theorem la_take {post : Int32 → St1 → Prop} {p q : Nat} {d : Int32} (h : la_cn a6 p d q) (hq : q ≤ 960) (H : post d (dc, pc, ln, sp, nd, sf, ft, nI q, a1, a2, a3, a4, a5, a6, a7, a8, a9, a10, a11, a12, a13, a14, a15, a16, a17, a18, a19, a20)) : wpX_takeNumber post (dc, pc, ln, sp, nd, sf, ft, nI p, a1, a2, a3, a4, a5, a6, a7, a8, a9, a10, a11, a12, a13, a14, a15, a16, a17, a18, a19, a20) := by
  have hp := la_cn_lt h
  refine ⟨pk_in p 960 (by omega), nm_e (nm_r (nI_1 p) ?_)⟩
  rw [nI_clamp (show p < 2 ^ 31 by omega)]
  rcases h with ⟨h1, h2, h3⟩ | ⟨h1, h2, h3⟩
  · subst h2
    refine br_t h1 (la_63 ?_)
    rw [h3]
    exact H
  · subst h2
    refine br_f h1 ⟨pk_in (p + 1) 960 (by omega), nm_e (nm_r (nI_1 (p + 1)) (la_63 ?_))⟩
    rw [nI_clamp (show p + 1 < 2 ^ 31 by omega), h3]
    exact H
theorem la_addLine {post : St1 → Prop} {l s : Nat} (hC : la_C n m nn sh SL IT TM a3 a4 a5 a6 a7 a8 a9 a10 a12 a13 a14 a15) (hl : l < n) (hs : sh l = s) (hN : la_Nm sh SL IT s l a17)
    (H : ∀ fr' c17, la_Nm sh SL IT s (l + 1) c17 → post (dc, pc, ln, sp, nd, sf, ft, fr', a1, a2, a3, a4, a5, a6, a7, a8, a9, a10, a11, a12, a13, a14, a15, a16, c17, a18, a19, a20)) : wpX_addLine post (dc, pc, ln, sp, nd, sf, ft, fr, a1, a2, a3, a4, a5, a6, a7, a8, a9, a10, a11, a12, a13, a14, a15, a16, a17, a18, a19, a20) (nI l) (nI s) := by
  subst hs
  have hn := hC.2.1
  have hm := hC.2.2.1
  have g := hC.1.1.1 l hl
  have hS := hC.1.2.1 _ g.2.1
  have hlen := la_Ln_len hC.1.1 hl
  obtain ⟨e, e1, e2, e3⟩ := hC.1.2.2.2.1
  obtain ⟨pos, r1, r2⟩ := e3 l hl
  refine ⟨pk_in l 61 (by omega), nm_r (e' := nI (pos 0)) (by rw [nI_clamp (by omega), r1]) ?_⟩
  refine la_lp2 (fun k i f c => wX_addLine_12 post (nI (sh l)) k (nI i) dc pc ln sp nd sf ft f a1 a2 a3 a4 a5 a6 a7 a8 a9 a10 a11 a12 a13 a14 a15 a16 c a18 a19 a20)
    (fun i f c => f = nI (pos i) ∧ ∀ j, j < (SL (sh l)).length → (SL (sh l)).getD j 0 = 1000 → c j = nI (la_last sh IT (sh l) j (if j < i then l + 1 else l)))
    (SL (sh l)).length 0 (nI (pos 0)) a17 (Nat.zero_le _) ⟨rfl, fun j h1 h2 => by rw [if_neg (Nat.not_lt_zero j)]; exact hN j h1 h2⟩ ?_ ?_
  · intro k f c hI
    refine ⟨pk_in (sh l) 60 (by omega), pk_le (SL (sh l)).length (SL (sh l)).length (fun _ => H _ _ (fun j h1 h2 => ?_)) (fun z => absurd z (by omega)) (by rw [nI_clamp (by omega), hS.1]) rfl (by omega) (by omega)⟩
    have := hI.2 j h1 h2
    rw [if_pos h1] at this
    exact this
  · intro k i f c hi hI hk
    obtain ⟨i1, i2⟩ := hI
    subst i1
    refine ⟨pk_in (sh l) 60 (by omega), pk_le (SL (sh l)).length i (fun z => absurd z (by omega)) (fun _ => ?_) (by rw [nI_clamp (by omega), hS.1]) rfl (by omega) (by omega)⟩
    rw [la_8, nI_clamp (show 8 * sh l + i < 2 ^ 31 by omega), hS.2.2.2.2 i hi, nI_clamp (show i < 2 ^ 31 by omega)]
    have hr := r2 i (by omega)
    have hb := la_Ln_bl hC.1.1 hl (i := i) (by omega)
    have h1000 := la_Sh_1000 hC.1.2.1 g.2.1 i
    refine ⟨pk_in (8 * sh l + i) 480 (by omega), pk_eq ((SL (sh l)).getD i 0) 1000 (fun z => ?_) (fun z => nm_r (nI_1 i) ?_) rfl rfl (by omega) (by omega)⟩
    · refine ⟨pk_in i 8 (by omega), la_take (hr.2.1 (hb.mp z)) (by have := hr.1; omega) ⟨pk_in i 8 (by omega), nm_e (nm_r (nI_1 i) ?_)⟩⟩
      refine hk (nI (pos (i + 1))) _ ⟨rfl, fun j h1 h2 => ?_⟩
      by_cases ej : j = i
      · subst ej
        rw [pk_us, i2 j h1 h2, if_neg (Nat.lt_irrefl j), if_pos (Nat.lt_succ_self j), la_last_t rfl]
        grind
      · rw [pk_un ej, i2 j h1 h2]
        by_cases e2 : j < i
        · rw [if_pos e2, if_pos (by omega)]
        · rw [if_neg e2, if_neg (by omega)]
    · refine hk (nI (pos i)) c ⟨?_, fun j h1 h2 => ?_⟩
      · rw [hr.2.2 (fun q => z (hb.mpr q))]
      · have ej : j ≠ i := fun q => z (q ▸ h2)
        rw [i2 j h1 h2]
        by_cases e2 : j < i
        · rw [if_pos e2, if_pos (by omega)]
        · rw [if_neg e2, if_neg (by omega)]
end
end
section
section
variable {dc pc ln sp nd sf fr : Int32} {ft : Int64} {a1 a2 a3 a4 a5 a6 a7 a8 a10 a12 a13 a14 a15 a16 a17 a18 a19 a20 : Nat → Int32} {a9 a11 : Nat → Int64}
variable {n m nn : Nat} {sh : Nat → Nat} {SL IT : Nat → List Nat} {TM : Nat → Nat}
theorem la_Nm_skip {s k : Nat} {c : Nat → Int32} (h : la_Nm sh SL IT s k c) (e : ¬ sh k = s) : la_Nm sh SL IT s (k + 1) c := by
  intro i h1 h2
  rw [la_last_f e]
  exact h i h1 h2
theorem la_Nm_0 {s : Nat} {c : Nat → Int32} (hs : (SL s).length ≤ 8) (h : ∀ j, j < 8 → c j = 0) : la_Nm sh SL IT s 0 c := by
  intro i h1 h2
  rw [h i (by omega)]
  rfl
theorem la_rl59 {post : St1 → Prop} {l : Nat} (hC : la_C n m nn sh SL IT TM a3 a4 a5 a6 a7 a8 a9 a10 a12 a13 a14 a15) (hl : l < n) (hN : la_Nm sh SL IT (sh l) (l + 1) a17)
    (H : ∀ c16, (∀ i, i < (IT l).length → c16 i = nI ((IT l).getD i 0)) → post (dc, pc, ln, sp, nd, sf, ft, fr, a1, a2, a3, a4, a5, a6, a7, a8, a9, a10, a11, a12, a13, a14, a15, c16, a17, a18, a19, a20)) : ∃ k, wX_readLine_59 post (nI (sh l)) dc pc ln sp nd sf ft fr k 0 a1 a2 a3 a4 a5 a6 a7 a8 a9 a10 a11 a12 a13 a14 a15 a16 a17 a18 a19 a20 := by
  have hn := hC.2.1
  have hm := hC.2.2.1
  have g := hC.1.1.1 l hl
  have hS := hC.1.2.1 _ g.2.1
  have hlen := la_Ln_len hC.1.1 hl
  refine pk_loop (fun k i c => wX_readLine_59 post (nI (sh l)) dc pc ln sp nd sf ft fr k (nI i) a1 a2 a3 a4 a5 a6 a7 a8 a9 a10 a11 a12 a13 a14 a15 c a17 a18 a19 a20) (fun i c => ∀ j, j < i → c j = nI ((IT l).getD j 0)) (SL (sh l)).length 0 a16 (Nat.zero_le _) (fun j h => absurd h (Nat.not_lt_zero j)) ?_ ?_
  · intro k c hI
    refine ⟨pk_in (sh l) 60 (by omega), pk_le (SL (sh l)).length (SL (sh l)).length (fun _ => H _ (fun j h1 => hI j (by omega))) (fun z => absurd z (by omega)) (by rw [nI_clamp (by omega), hS.1]) rfl (by omega) (by omega)⟩
  · intro k i c hi hI hk
    refine ⟨pk_in (sh l) 60 (by omega), pk_le (SL (sh l)).length i (fun z => absurd z (by omega)) (fun _ => ?_) (by rw [nI_clamp (by omega), hS.1]) rfl (by omega) (by omega)⟩
    rw [la_8, nI_clamp (show 8 * sh l + i < 2 ^ 31 by omega), hS.2.2.2.2 i hi, nI_clamp (show i < 2 ^ 31 by omega)]
    have hb := la_Ln_bl hC.1.1 hl (i := i) (by omega)
    have h1000 := la_Sh_1000 hC.1.2.1 g.2.1 i
    have h2000 := la_Ln_2000 hC.1.1 hl i
    have hmap : (SL (sh l)).getD i 0 = la_blk ((IT l).getD i 0) := by rw [← g.2.2.1, la_getD_map]
    refine ⟨pk_in (8 * sh l + i) 480 (by omega), nm_e (pk_eq ((SL (sh l)).getD i 0) 1000 (fun z => ?_) (fun z => ?_) rfl rfl (by omega) (by omega))⟩
    · refine ⟨pk_in i 8 (by omega), pk_in i 8 (by omega), nm_e (nm_r (nI_1 i) (hk _ (fun j hj => ?_)))⟩
      by_cases ej : j = i
      · subst ej
        have q := hb.mp z
        rw [pk_us, hN j hi z, la_last_t rfl, show (1000 : Int32) = nI 1000 from rfl, nI_add]
        congr 1
        omega
      · rw [pk_un ej]
        exact hI j (by omega)
    · refine ⟨pk_in i 8 (by omega), nm_e (nm_r (nI_1 i) (hk _ (fun j hj => ?_)))⟩
      by_cases ej : j = i
      · subst ej
        rw [pk_us, hmap]
        have q : ¬ 1000 ≤ (IT l).getD j 0 := fun q => z (hb.mpr q)
        unfold la_blk
        rw [if_neg q]
      · rw [pk_un ej]
        exact hI j (by omega)
theorem la_rl30 {post : St1 → Prop} {l : Nat} (hC : la_C n m nn sh SL IT TM a3 a4 a5 a6 a7 a8 a9 a10 a12 a13 a14 a15) (hl : l < n) (hN : la_Nm sh SL IT (sh l) 0 a17)
    (H : ∀ fr' c16 c17, (∀ i, i < (IT l).length → c16 i = nI ((IT l).getD i 0)) → post (dc, pc, ln, sp, nd, sf, ft, fr', a1, a2, a3, a4, a5, a6, a7, a8, a9, a10, a11, a12, a13, a14, a15, c16, c17, a18, a19, a20)) : ∃ k, wX_readLine_30 post (nI l) (nI (sh l)) k 0 dc pc ln sp nd sf ft fr a1 a2 a3 a4 a5 a6 a7 a8 a9 a10 a11 a12 a13 a14 a15 a16 a17 a18 a19 a20 := by
  have hn := hC.2.1
  have hm := hC.2.2.1
  have g := hC.1.1.1 l hl
  refine la_lp2 (fun k i f c => wX_readLine_30 post (nI l) (nI (sh l)) k (nI i) dc pc ln sp nd sf ft f a1 a2 a3 a4 a5 a6 a7 a8 a9 a10 a11 a12 a13 a14 a15 a16 c a18 a19 a20) (fun i f c => la_Nm sh SL IT (sh l) i c) (l + 1) 0 fr a17 (Nat.zero_le _) hN ?_ ?_
  · intro k f c hI
    exact pk_lt l (l + 1) (fun _ => la_rl59 hC hl hI (fun c16 h => H _ c16 _ h)) (fun z => absurd z (by omega))
  · intro k i f c hi hI hk
    refine pk_lt l i (fun z => absurd z (by omega)) (fun _ => ⟨pk_in i 60 (by omega), ?_⟩)
    have gi := hC.1.1.1 i (by omega)
    refine pk_eq (sh i) (sh l) (fun z => ?_) (fun z => nm_r (nI_1 i) (hk _ _ (la_Nm_skip hI z))) (by rw [nI_clamp (by omega), gi.1]) rfl (by omega) (by omega)
    exact la_addLine hC (by omega) z hI (fun fr' c17 h => nm_r (nI_1 i) (hk _ _ h))
theorem la_readLine {post : St1 → Prop} {l : Nat} (hC : la_C n m nn sh SL IT TM a3 a4 a5 a6 a7 a8 a9 a10 a12 a13 a14 a15) (hl : l < n)
    (H : ∀ fr' c16 c17, (∀ i, i < (IT l).length → c16 i = nI ((IT l).getD i 0)) → post (dc, pc, ln, sp, nd, sf, ft, fr', a1, a2, a3, a4, a5, a6, a7, a8, a9, a10, a11, a12, a13, a14, a15, c16, c17, a18, a19, a20)) : wpX_readLine post (dc, pc, ln, sp, nd, sf, ft, fr, a1, a2, a3, a4, a5, a6, a7, a8, a9, a10, a11, a12, a13, a14, a15, a16, a17, a18, a19, a20) (nI l) := by
  have hn := hC.2.1
  have hm := hC.2.2.1
  have g := hC.1.1.1 l hl
  have hS := hC.1.2.1 _ g.2.1
  refine ⟨pk_in l 60 (by omega), nm_r (e' := nI (sh l)) (by rw [nI_clamp (by omega), g.1]) ?_⟩
  refine pk_loop (fun k i c => wX_readLine_9 post (nI l) (nI (sh l)) dc pc ln sp nd sf ft fr k (nI i) a1 a2 a3 a4 a5 a6 a7 a8 a9 a10 a11 a12 a13 a14 a15 a16 c a18 a19 a20) (fun i c => ∀ j, j < i → c j = 0) 8 0 a17 (by omega) (fun j h => absurd h (Nat.not_lt_zero j)) ?_ ?_
  · intro k c hI
    exact pk_le 8 8 (fun _ => la_rl30 hC hl (la_Nm_0 hS.2.2.1 hI) H) (fun z => absurd z (by omega))
  · intro k i c hi hI hk
    refine pk_le 8 i (fun z => absurd z (by omega)) (fun _ => ⟨pk_in i 8 (by omega), nm_e (nm_r (nI_1 i) (hk _ (fun j hj => ?_)))⟩)
    rw [nI_clamp (show i < 2 ^ 31 by omega)]
    by_cases ej : j = i
    · rw [ej, pk_us]
    · rw [pk_un ej]
      exact hI j (by omega)
theorem la_at {post : Int32 → St1 → Prop} {l i : Nat} (hC : la_C n m nn sh SL IT TM a3 a4 a5 a6 a7 a8 a9 a10 a12 a13 a14 a15) (hl : l < n) (hi : i < (IT l).length)
    (H : ∀ fr' c16 c17, post (nI ((IT l).getD i 0)) (dc, pc, nI n, sp, nd, sf, ft, fr', a1, a2, a3, a4, a5, a6, a7, a8, a9, a10, a11, a12, a13, a14, a15, c16, c17, a18, a19, a20)) : wpX_at post (dc, pc, nI n, sp, nd, sf, ft, fr, a1, a2, a3, a4, a5, a6, a7, a8, a9, a10, a11, a12, a13, a14, a15, a16, a17, a18, a19, a20) (nI l) (nI i) := by
  have hn := hC.2.1
  have hm := hC.2.2.1
  have g := hC.1.1.1 l hl
  have hS := hC.1.2.1 _ g.2.1
  have hlen := la_Ln_len hC.1.1 hl
  unfold wpX_at
  refine la_isLine hl hn (br_f (by decide) (br_f (nI_pos (by omega)) ⟨pk_in l 60 (by omega), ?_⟩))
  rw [nI_clamp (show l < 2 ^ 31 by omega), g.1]
  refine ⟨pk_in (sh l) 60 (by omega), ?_⟩
  rw [nI_clamp (show sh l < 2 ^ 31 by omega), hS.1]
  refine pk_lt i (SL (sh l)).length (fun _ => ?_) (fun z => absurd z (by omega))
  refine la_readLine hC hl (fun fr' c16 c17 h => ⟨pk_in i 8 (by omega), ?_⟩)
  rw [nI_clamp (show i < 2 ^ 31 by omega), h i hi]
  exact H fr' c16 c17
theorem la_recall {post : Int32 → St1 → Prop} {l : Nat} (hC : la_C n m nn sh SL IT TM a3 a4 a5 a6 a7 a8 a9 a10 a12 a13 a14 a15) (hl : l < n)
    (H : ∀ fr' c1 c16 c17, (∀ i, i < (IT l).length → c1 i = nI ((IT l).getD i 0)) → post (nI (IT l).length) (nI (IT l).length, pc, nI n, sp, nd, sf, ft, fr', c1, a2, a3, a4, a5, a6, a7, a8, a9, a10, a11, a12, a13, a14, a15, c16, c17, a18, a19, a20)) : wpX_recall post (dc, pc, nI n, sp, nd, sf, ft, fr, a1, a2, a3, a4, a5, a6, a7, a8, a9, a10, a11, a12, a13, a14, a15, a16, a17, a18, a19, a20) (nI l) := by
  have hn := hC.2.1
  have hm := hC.2.2.1
  have g := hC.1.1.1 l hl
  have hS := hC.1.2.1 _ g.2.1
  have hlen := la_Ln_len hC.1.1 hl
  unfold wpX_recall
  refine la_isLine hl hn (br_f (by decide) (la_readLine hC hl (fun fr' c16 c17 h => ⟨pk_in l 60 (by omega), ?_⟩)))
  rw [nI_clamp (show l < 2 ^ 31 by omega), g.1]
  refine ⟨pk_in (sh l) 60 (by omega), ?_⟩
  rw [nI_clamp (show sh l < 2 ^ 31 by omega), hS.1, ← hlen]
  refine nm_e ?_
  refine pk_loop (fun k i c => wX_recall_32 post (nI (IT l).length) pc (nI n) sp nd sf ft fr' k (nI i) c a2 a3 a4 a5 a6 a7 a8 a9 a10 a11 a12 a13 a14 a15 c16 c17 a18 a19 a20) (fun i c => ∀ j, j < i → c j = nI ((IT l).getD j 0)) (IT l).length 0 a1 (Nat.zero_le _) (fun j h => absurd h (Nat.not_lt_zero j)) ?_ ?_
  · intro k c hI
    exact pk_le (IT l).length (IT l).length (fun _ => H _ _ _ _ hI) (fun z => absurd z (by omega))
  · intro k i c hi hI hk
    refine pk_le (IT l).length i (fun z => absurd z (by omega)) (fun _ => ⟨pk_in i 8 (by omega), pk_in i 8 (by omega), nm_e (nm_r (nI_1 i) (hk _ (fun j hj => ?_)))⟩)
    rw [nI_clamp (show i < 2 ^ 31 by omega)]
    by_cases ej : j = i
    · rw [ej, pk_us, h i hi]
    · rw [pk_un ej]
      exact hI j (by omega)
end
end
section
/-! ranks of shapes: a permutation -/
theorem la_cnt_mono {f g : Nat → Bool} {k : Nat} (h : ∀ j, j < k → f j = true → g j = true) : la_cnt f k ≤ la_cnt g k := by
  induction k with
  | zero => exact Nat.le_refl 0
  | succ k ih =>
    have h1 := ih (fun j hj => h j (by omega))
    have h2 := h k (by omega)
    have h3 : (f k).toNat ≤ (g k).toNat := by
      cases e : f k
      · exact Nat.zero_le _
      · rw [h2 e]; exact Nat.le_refl _
    show la_cnt f k + (f k).toNat ≤ la_cnt g k + (g k).toNat
    omega
theorem la_cnt_strict {f g : Nat → Bool} {k j : Nat} (h : ∀ j, j < k → f j = true → g j = true) (hj : j < k) (hf : f j = false) (hg : g j = true) : la_cnt f k < la_cnt g k := by
  induction k with
  | zero => omega
  | succ k ih =>
    show la_cnt f k + (f k).toNat < la_cnt g k + (g k).toNat
    by_cases e : j = k
    · subst e
      have h1 := la_cnt_mono (k := j) (fun i hi => h i (by omega))
      rw [hf, hg]
      show la_cnt f j + 0 < la_cnt g j + 1
      omega
    · have h1 := ih (fun i hi => h i (by omega)) (by omega)
      have h2 := h k (by omega)
      have h3 : (f k).toNat ≤ (g k).toNat := by
        cases e : f k
        · exact Nat.zero_le _
        · rw [h2 e]; exact Nat.le_refl _
      omega
/-- t goes before s -/
def la_pr (c : Nat → Nat) (s t : Nat) : Bool := decide (c s < c t ∨ (c t = c s ∧ t < s))
def la_rk (c : Nat → Nat) (m s : Nat) : Nat := la_cnt (la_pr c s) m
theorem la_pr_iff {c : Nat → Nat} {s t : Nat} : la_pr c s t = true ↔ (c s < c t ∨ (c t = c s ∧ t < s)) := decide_eq_true_iff
theorem la_pr_self (c : Nat → Nat) (s : Nat) : la_pr c s s = false := decide_eq_false (by omega)
theorem la_rk_lt {c : Nat → Nat} {m s : Nat} (hs : s < m) : la_rk c m s < m := by
  have h := la_cnt_strict (f := la_pr c s) (g := fun _ => true) (k := m) (j := s) (fun _ _ _ => rfl) hs (la_pr_self c s) rfl
  rw [la_cnt_all] at h
  exact h
theorem la_rk_mono {c : Nat → Nat} {m s t : Nat} (hs : s < m) (h : la_pr c t s = true) : la_rk c m s < la_rk c m t := by
  refine la_cnt_strict (j := s) (fun j hj hp => ?_) hs (la_pr_self c s) h
  rw [la_pr_iff] at h hp ⊢
  omega
theorem la_rk_inj {c : Nat → Nat} {m s t : Nat} (hs : s < m) (ht : t < m) (e : la_rk c m s = la_rk c m t) : s = t := by
  rcases Nat.lt_or_ge s t with h | h
  · by_cases q : c s < c t
    · have := la_rk_mono (c := c) (m := m) (s := t) (t := s) ht (la_pr_iff.mpr (by omega))
      omega
    · have := la_rk_mono (c := c) (m := m) (s := s) (t := t) hs (la_pr_iff.mpr (by omega))
      omega
  · by_cases z : s = t
    · exact z
    · by_cases q : c t < c s
      · have := la_rk_mono (c := c) (m := m) (s := s) (t := t) hs (la_pr_iff.mpr (by omega))
        omega
      · have := la_rk_mono (c := c) (m := m) (s := t) (t := s) ht (la_pr_iff.mpr (by omega))
        omega
theorem la_surj : ∀ (m : Nat) (f : Nat → Nat), (∀ s, s < m → f s < m) → (∀ s t, s < m → t < m → f s = f t → s = t) → ∀ k, k < m → ∃ s, s < m ∧ f s = k
  | 0, _, _, _ => fun k hk => absurd hk (Nat.not_lt_zero k)
  | m + 1, f, hf, hi => by
    intro k hk
    have ih := la_surj m (fun s => if f s = m then f m else f s) (by
      intro s hs
      have h1 := hf s (by omega)
      have h2 := hf m (by omega)
      split
      · rename_i e
        rcases Nat.lt_or_ge (f m) m with z | z
        · exact z
        · have := hi s m (by omega) (by omega) (by omega)
          omega
      · omega) (by
      intro s t hs ht e
      split at e
      · rename_i e1
        split at e
        · rename_i e2
          exact hi s t (by omega) (by omega) (by rw [e1, e2])
        · have := hi m t (by omega) (by omega) e
          omega
      · split at e
        · have := hi s m (by omega) (by omega) e
          omega
        · exact hi s t (by omega) (by omega) e)
    by_cases e1 : f m = k
    · exact ⟨m, by omega, e1⟩
    · by_cases e2 : k = m
      · have hv : f m < m := by have := hf m (by omega); omega
        obtain ⟨s, s1, s2⟩ := ih (f m) hv
        split at s2
        · rename_i e3
          exact ⟨s, by omega, by omega⟩
        · have := hi s m (by omega) (by omega) s2
          omega
      · obtain ⟨s, s1, s2⟩ := ih k (by omega)
        split at s2
        · exact absurd s2 e1
        · exact ⟨s, by omega, s2⟩
/-- the sum of c over the marked places below m -/
def la_sm (c : Nat → Nat) (p : Nat → Bool) : Nat → Nat
  | 0 => 0
  | s + 1 => la_sm c p s + (if p s = true then c s else 0)
theorem la_sm_eq {c d : Nat → Nat} {p q : Nat → Bool} {m : Nat} (h : ∀ s, s < m → p s = q s ∧ c s = d s) : la_sm c p m = la_sm d q m := by
  induction m with
  | zero => rfl
  | succ m ih =>
    unfold la_sm
    rw [ih (fun s hs => h s (by omega)), (h m (by omega)).1, (h m (by omega)).2]
theorem la_sm_add {c : Nat → Nat} {p : Nat → Bool} {s0 : Nat} (hp : p s0 = false) : ∀ m, la_sm c (fun s => p s || decide (s = s0)) m = la_sm c p m + (if s0 < m then c s0 else 0)
  | 0 => by rw [if_neg (Nat.not_lt_zero s0)]; rfl
  | m + 1 => by
    unfold la_sm
    rw [la_sm_add hp m]
    by_cases e : m = s0
    · subst e
      rw [hp, if_neg (Nat.lt_irrefl m), if_pos (Nat.lt_succ_self m)]
      simp
    · by_cases e2 : s0 < m
      · rw [if_pos e2, if_pos (show s0 < m + 1 by omega)]
        simp only [e, decide_false, Bool.or_false]
        omega
      · rw [if_neg e2, if_neg (show ¬ s0 < m + 1 by omega)]
        simp only [e, decide_false, Bool.or_false]
        omega
theorem la_sm_one {c : Nat → Nat} {s0 : Nat} : ∀ m, la_sm (fun s => c s + (decide (s0 = s)).toNat) (fun _ => true) m = la_sm c (fun _ => true) m + (if s0 < m then 1 else 0)
  | 0 => by rw [if_neg (Nat.not_lt_zero s0)]; rfl
  | m + 1 => by
    unfold la_sm
    rw [la_sm_one m]
    by_cases e : s0 = m
    · subst e
      rw [if_neg (Nat.lt_irrefl s0), if_pos (Nat.lt_succ_self s0)]
      simp
      omega
    · by_cases e2 : s0 < m
      · rw [if_pos e2, if_pos (show s0 < m + 1 by omega), decide_eq_false e]
        have h1 : ∀ x : Nat, (if true = true then x else 0) = x := fun x => if_pos rfl
        rw [h1, h1]
        show _ + 1 + (_ + 0) = _
        omega
      · rw [if_neg e2, if_neg (show ¬ s0 < m + 1 by omega), decide_eq_false e]
        have h1 : ∀ x : Nat, (if true = true then x else 0) = x := fun x => if_pos rfl
        rw [h1, h1]
        show _ + 0 + (_ + 0) = _
        omega
theorem la_sm_mem {sh : Nat → Nat} {m : Nat} : ∀ n, (∀ l, l < n → sh l < m) → la_sm (la_mem sh n) (fun _ => true) m = n
  | 0, _ => by
    have : ∀ m, la_sm (la_mem sh 0) (fun _ => true) m = 0 := by
      intro m
      induction m with
      | zero => rfl
      | succ m ih => unfold la_sm; rw [ih]; rfl
    exact this m
  | n + 1, h => by
    have e : la_sm (la_mem sh (n + 1)) (fun _ => true) m = la_sm (fun s => la_mem sh n s + (decide (sh n = s)).toNat) (fun _ => true) m := la_sm_eq (fun s _ => ⟨rfl, rfl⟩)
    rw [e, la_sm_one, la_sm_mem n (fun l hl => h l (by omega)), if_pos (h n (by omega))]
theorem la_p0 (k : Nat) : nI k + 0 = nI k := by
  rw [show (0 : Int32) = nI 0 from rfl, nI_add]; rfl
section
variable {dc pc ln sp nd sf fr : Int32} {ft : Int64} {a1 a2 a3 a4 a5 a6 a7 a8 a10 a12 a13 a14 a15 a16 a17 a18 a19 a20 : Nat → Int32} {a9 a11 : Nat → Int64}
variable {n m nn : Nat} {sh : Nat → Nat} {SL IT : Nat → List Nat} {TM : Nat → Nat}
theorem la_mem_le (sh : Nat → Nat) (n s : Nat) : la_mem sh n s ≤ n := la_cnt_le _ n
theorem la_rankOf {post : Int32 → Prop} {s : Nat} (hC : la_C n m nn sh SL IT TM a3 a4 a5 a6 a7 a8 a9 a10 a12 a13 a14 a15) (hs : s < m) (H : post (nI (la_rk (la_mem sh n) m s))) : wpX_rankOf post (dc, pc, ln, nI m, nd, sf, ft, fr, a1, a2, a3, a4, a5, a6, a7, a8, a9, a10, a11, a12, a13, a14, a15, a16, a17, a18, a19, a20) (nI s) := by
  have hn := hC.2.1
  have hm := hC.2.2.1
  have hB := hC.1.2.2.1
  have hc := la_mem_le sh n
  refine ⟨pk_in s 60 (by omega), ?_⟩
  rw [nI_clamp (show s < 2 ^ 31 by omega)]
  refine la_ones ?_
  rw [la_Bt_cnt hB hn hs]
  refine pk_loop (σ := Unit) (fun k i _ => wX_rankOf_15 post (nI s) (nI (la_mem sh n s)) dc pc ln (nI m) nd sf ft fr a1 a2 a3 a4 a5 a6 a7 a8 a9 a10 a11 a12 a13 a14 a15 a16 a17 a18 a19 a20 k (nI (la_cnt (la_pr (la_mem sh n) s) i)) (nI i)) (fun _ _ => True) m 0 () (Nat.zero_le _) trivial ?_ ?_
  · intro k _ _
    exact pk_le m m (fun _ => H) (fun z => absurd z (by omega))
  · intro k i _ hi _ hk
    have hw := hk () trivial
    have E : la_cnt (la_pr (la_mem sh n) s) (i + 1) = la_cnt (la_pr (la_mem sh n) s) i + (la_pr (la_mem sh n) s i).toNat := rfl
    have h1 := hc s
    have h2 := hc i
    refine pk_le m i (fun z => absurd z (by omega)) (fun _ => ⟨pk_in i 60 (by omega), ?_⟩)
    rw [nI_clamp (show i < 2 ^ 31 by omega)]
    refine la_ones ?_
    rw [la_Bt_cnt hB hn hi]
    refine pk_lt (la_mem sh n s) (la_mem sh n i) (fun z => nm_r (nI_1 _) (nm_r (nI_1 i) ?_)) (fun z => pk_eq (la_mem sh n i) (la_mem sh n s) (fun z2 => pk_le s i (fun z3 => nm_r (la_p0 _) (nm_r (nI_1 i) ?_)) (fun z3 => nm_r (nI_1 _) (nm_r (nI_1 i) ?_))) (fun z2 => nm_r (la_p0 _) (nm_r (nI_1 i) ?_)))
    · have q : la_pr (la_mem sh n) s i = true := la_pr_iff.mpr (by omega)
      rw [E, q] at hw
      exact hw
    · have q : la_pr (la_mem sh n) s i = false := decide_eq_false (by omega)
      rw [E, q] at hw
      exact hw
    · have q : la_pr (la_mem sh n) s i = true := la_pr_iff.mpr (by omega)
      rw [E, q] at hw
      exact hw
    · have q : la_pr (la_mem sh n) s i = false := decide_eq_false (by omega)
      rw [E, q] at hw
      exact hw
theorem la_largest {post : Int32 → Prop} {k : Nat} (hC : la_C n m nn sh SL IT TM a3 a4 a5 a6 a7 a8 a9 a10 a12 a13 a14 a15) (hk : k ≤ 60)
    (H1 : ∀ s f, s < m → la_rk (la_mem sh n) m s = k → f < n → la_fst sh s f → post (nI f)) (H0 : (∀ s, s < m → la_rk (la_mem sh n) m s ≠ k) → post (-2)) : wpX_largest post (dc, pc, ln, nI m, nd, sf, ft, fr, a1, a2, a3, a4, a5, a6, a7, a8, a9, a10, a11, a12, a13, a14, a15, a16, a17, a18, a19, a20) (nI k) := by
  have hn := hC.2.1
  have hm := hC.2.2.1
  refine pk_loop (σ := Unit) (fun j i _ => wX_largest_2 post (nI k) dc pc ln (nI m) nd sf ft fr a1 a2 a3 a4 a5 a6 a7 a8 a9 a10 a11 a12 a13 a14 a15 a16 a17 a18 a19 a20 j (nI i)) (fun i _ => ∀ s, s < i → la_rk (la_mem sh n) m s ≠ k) m 0 () (Nat.zero_le _) (fun s hs => absurd hs (Nat.not_lt_zero s)) ?_ ?_
  · intro j _ hI
    exact pk_le m m (fun _ => H0 hI) (fun z => absurd z (by omega))
  · intro j i _ hi hI hw
    have hr := la_rk_lt (c := la_mem sh n) hi
    refine pk_le m i (fun z => absurd z (by omega)) (fun _ => la_rankOf hC hi (pk_eq (la_rk (la_mem sh n) m i) k (fun z => ?_) (fun z => nm_r (nI_1 i) (hw () (fun s hs => ?_)))))
    · obtain ⟨f, f1, f2⟩ := la_fst_ex hC hi
      exact la_firstOf hC hi f1 f2 (H1 i f hi z f1 f2)
    · by_cases e : s = i
      · rw [e]; exact z
      · exact hI s (by omega)
/-- the law's check of groups answers true -/
theorem la_groups {post : Int32 → Prop} (hC : la_C n m nn sh SL IT TM a3 a4 a5 a6 a7 a8 a9 a10 a12 a13 a14 a15) (H : post 1) : wpL_groups post (dc, pc, nI n, nI m, nd, sf, ft, fr, a1, a2, a3, a4, a5, a6, a7, a8, a9, a10, a11, a12, a13, a14, a15, a16, a17, a18, a19, a20) := by
  have hn := hC.2.1
  have hm := hC.2.2.1
  have hsur := la_surj m (la_rk (la_mem sh n) m) (fun s hs => la_rk_lt hs) (fun s t hs ht e => la_rk_inj hs ht e)
  have hall := la_sm_mem (sh := sh) (m := m) n (fun l hl => (hC.1.1.1 l hl).2.1)
  have start : ∀ f : Int32, ((f = -2 ∧ 0 = m) ∨ ∃ s g, s < m ∧ la_rk (la_mem sh n) m s = 0 ∧ g < n ∧ la_fst sh s g ∧ f = nI g) → ∃ k, wL_groups_10 post dc pc (nI n) (nI m) nd sf ft fr a1 a2 a3 a4 a5 a6 a7 a8 a9 a10 a11 a12 a13 a14 a15 a16 a17 a18 a19 a20 k 0 0 f := by
    intro f hf
    have h0 : la_sm (la_mem sh n) (fun s => decide (la_rk (la_mem sh n) m s < 0)) m = 0 := by
      have : ∀ j, la_sm (la_mem sh n) (fun s => decide (la_rk (la_mem sh n) m s < 0)) j = 0 := by
        intro j
        induction j with
        | zero => rfl
        | succ j ih => unfold la_sm; rw [ih]; simp
      exact this m
    have key := pk_loop (σ := Int32) (fun k i f => wL_groups_10 post dc pc (nI n) (nI m) nd sf ft fr a1 a2 a3 a4 a5 a6 a7 a8 a9 a10 a11 a12 a13 a14 a15 a16 a17 a18 a19 a20 k (nI (la_sm (la_mem sh n) (fun s => decide (la_rk (la_mem sh n) m s < i)) m)) (nI i) f)
      (fun i f => (f = -2 ∧ i = m) ∨ ∃ s g, s < m ∧ la_rk (la_mem sh n) m s = i ∧ g < n ∧ la_fst sh s g ∧ f = nI g) m 0 f (Nat.zero_le _) hf ?_ ?_
    · obtain ⟨k, hk⟩ := key
      rw [h0] at hk
      exact ⟨k, hk⟩
    · intro k f hI
      rcases hI with ⟨e, _⟩ | ⟨s, g, s1, s2, _⟩
      · subst e
        have e2 : la_sm (la_mem sh n) (fun s => decide (la_rk (la_mem sh n) m s < m)) m = n :=
          (la_sm_eq (fun s hs => ⟨decide_eq_true (la_rk_lt hs), rfl⟩)).trans hall
        rw [e2]
        exact br_t (by decide) (br_t rfl (br_t rfl H))
      · have := la_rk_lt (c := la_mem sh n) s1
        omega
    · intro k i f hi hI hw
      rcases hI with ⟨_, e⟩ | ⟨s, g, s1, s2, g1, g2, rfl⟩
      · omega
      · have hgs := g2.1
        have hfs : la_fst sh (sh g) g := by rw [hgs]; exact g2
        have e : la_sm (la_mem sh n) (fun s => decide (la_rk (la_mem sh n) m s < i + 1)) m = la_sm (la_mem sh n) (fun s => decide (la_rk (la_mem sh n) m s < i)) m + la_mem sh n s := by
          have h1 := la_sm_add (c := la_mem sh n) (p := fun s => decide (la_rk (la_mem sh n) m s < i)) (s0 := s) (decide_eq_false (by omega)) m
          rw [if_pos s1] at h1
          rw [← h1]
          refine la_sm_eq (fun t ht => ⟨?_, rfl⟩)
          by_cases et : t = s
          · subst et
            simp [s2]
          · have : la_rk (la_mem sh n) m t ≠ i := fun z => et (la_rk_inj (c := la_mem sh n) ht s1 (by omega))
            simp only [et, decide_false, Bool.or_false]
            by_cases q : la_rk (la_mem sh n) m t < i
            · rw [decide_eq_true q, decide_eq_true (by omega)]
            · rw [decide_eq_false q, decide_eq_false (by omega)]
        refine br_f (nI_pos (by omega)) (la_members hC g1 (nm_r (e' := nI (la_sm (la_mem sh n) (fun s => decide (la_rk (la_mem sh n) m s < i + 1)) m)) (by rw [nI_add, e, hgs]) (nm_r (nI_1 i) (la_group hC g1 g1 hfs (br_t rfl (pk_le (i + 1) 60 (fun _ => ?_) (fun z => absurd z (by omega)))))))) 
        refine la_largest hC (by omega) (fun t g' t1 t2 t3 t4 => hw _ (Or.inr ⟨t, g', t1, t2, t3, t4, rfl⟩)) (fun z => hw _ (Or.inl ⟨rfl, ?_⟩))
        rcases Nat.lt_or_ge (i + 1) m with q | q
        · obtain ⟨t, t1, t2⟩ := hsur (i + 1) q
          exact absurd t2 (z t t1)
        · omega
  unfold wpL_groups
  refine la_largest (k := 0) hC (by omega) (fun s g s1 s2 s3 s4 => start _ (Or.inr ⟨s, g, s1, s2, s3, s4, rfl⟩)) (fun z => start _ (Or.inl ⟨rfl, ?_⟩))
  rcases Nat.lt_or_ge 0 m with q | q
  · obtain ⟨t, t1, t2⟩ := hsur 0 q
    exact absurd t2 (z t t1)
  · omega
end
end
section
/-! least, most and sum of a column -/
def la_lo (p : Nat → Bool) (v : Nat → Nat) : Nat → Nat
  | 0 => 1000
  | k + 1 => if p k = true then (if la_lo p v k ≤ v k then la_lo p v k else v k) else la_lo p v k
def la_hi (p : Nat → Bool) (v : Nat → Nat) : Nat → Int32
  | 0 => -1
  | k + 1 => if p k = true then (if nI (v k) ≤ la_hi p v k then la_hi p v k else nI (v k)) else la_hi p v k
def la_tot (w lo : Nat) (hi : Int32) (sm : Nat) : Int32 := if w = 0 then nI lo else if w = 1 then hi else nI sm
theorem la_lo_le (p : Nat → Bool) (v : Nat → Nat) (k : Nat) : la_lo p v k ≤ 1000 := by
  induction k with
  | zero => exact Nat.le_refl _
  | succ k ih =>
    unfold la_lo
    split
    · split
      · exact ih
      · omega
    · exact ih
theorem la_lo_sm (p : Nat → Bool) (v : Nat → Nat) (k : Nat) : la_lo p v k * la_cnt p k ≤ la_sm v p k := by
  induction k with
  | zero => exact Nat.le_refl _
  | succ k ih =>
    unfold la_lo la_cnt la_sm
    cases e : p k
    · simpa using ih
    · simp only [if_true, Bool.toNat_true]
      split
      · rename_i h
        rw [Nat.mul_add, Nat.mul_one]
        omega
      · rename_i h
        have : v k * la_cnt p k ≤ la_lo p v k * la_cnt p k := Nat.mul_le_mul_right _ (by omega)
        rw [Nat.mul_add, Nat.mul_one]
        omega
theorem la_sm_le (p : Nat → Bool) (v : Nat → Nat) (k : Nat) (hv : ∀ j, j < k → v j < 1000) : la_sm v p k ≤ 999 * k := by
  induction k with
  | zero => exact Nat.le_refl _
  | succ k ih =>
    have h1 := ih (fun j hj => hv j (by omega))
    have h2 := hv k (by omega)
    unfold la_sm
    split <;> omega
theorem la_hi_sm (p : Nat → Bool) (v : Nat → Nat) (k : Nat) (hv : ∀ j, j < k → v j < 1000) :
    (la_cnt p k = 0 ∧ la_hi p v k = -1 ∧ la_sm v p k = 0) ∨ ∃ h, h < 1000 ∧ la_hi p v k = nI h ∧ la_sm v p k ≤ h * la_cnt p k := by
  induction k with
  | zero => exact Or.inl ⟨rfl, rfl, rfl⟩
  | succ k ih =>
    have h2 := hv k (by omega)
    unfold la_cnt la_hi la_sm
    cases e : p k
    · simpa using ih (fun j hj => hv j (by omega))
    · simp only [if_true, Bool.toNat_true]
      right
      rcases ih (fun j hj => hv j (by omega)) with ⟨i1, i2, i3⟩ | ⟨h, i1, i2, i3⟩
      · have q : ¬ nI (v k) ≤ -1 := by
          have := nI_pos (n := v k) (by omega)
          rw [Int32.lt_iff_toInt_lt] at this
          rw [Int32.le_iff_toInt_le]
          have e0 : (0 : Int32).toInt = 0 := by decide
          have e1 : (-1 : Int32).toInt = -1 := by decide
          omega
        rw [i2, if_neg q, i1, i3]
        exact ⟨v k, h2, rfl, by omega⟩
      · rw [i2]
        by_cases q : v k ≤ h
        · rw [if_pos (nI_le q (by omega))]
          refine ⟨h, i1, rfl, ?_⟩
          rw [Nat.mul_add, Nat.mul_one]
          omega
        · rw [if_neg (nI_ge (by omega) (by omega))]
          refine ⟨v k, h2, rfl, ?_⟩
          have : h * la_cnt p k ≤ v k * la_cnt p k := Nat.mul_le_mul_right _ (by omega)
          rw [Nat.mul_add, Nat.mul_one]
          omega
section
variable {dc pc ln sp nd sf fr : Int32} {ft : Int64} {a1 a2 a3 a4 a5 a6 a7 a8 a10 a12 a13 a14 a15 a16 a17 a18 a19 a20 : Nat → Int32} {a9 a11 : Nat → Int64}
variable {n m nn : Nat} {sh : Nat → Nat} {SL IT : Nat → List Nat} {TM : Nat → Nat}
theorem la_clear {post : St1 → Prop} (H : ∀ c17, (∀ j, j < 8 → c17 j = 0) → post (dc, pc, ln, sp, nd, sf, ft, fr, a1, a2, a3, a4, a5, a6, a7, a8, a9, a10, a11, a12, a13, a14, a15, a16, c17, a18, a19, a20)) : wpX_clearNumbers post (dc, pc, ln, sp, nd, sf, ft, fr, a1, a2, a3, a4, a5, a6, a7, a8, a9, a10, a11, a12, a13, a14, a15, a16, a17, a18, a19, a20) := by
  refine pk_loop (fun k i c => wX_clearNumbers_2 post dc pc ln sp nd sf ft fr k (nI i) a1 a2 a3 a4 a5 a6 a7 a8 a9 a10 a11 a12 a13 a14 a15 a16 c a18 a19 a20) (fun i c => ∀ j, j < i → c j = 0) 8 0 a17 (by omega) (fun j h => absurd h (Nat.not_lt_zero j)) ?_ ?_
  · intro k c hI
    exact pk_le 8 8 (fun _ => H _ hI) (fun z => absurd z (by omega))
  · intro k i c hi hI hk
    refine pk_le 8 i (fun z => absurd z (by omega)) (fun _ => ⟨pk_in i 8 (by omega), nm_e (nm_r (nI_1 i) (hk _ (fun j hj => ?_)))⟩)
    rw [nI_clamp (show i < 2 ^ 31 by omega)]
    by_cases ej : j = i
    · rw [ej, pk_us]
    · rw [pk_un ej]
      exact hI j (by omega)
def la_pS (sh : Nat → Nat) (s : Nat) : Nat → Bool := fun k => decide (sh k = s)
def la_vC (IT : Nat → List Nat) (i : Nat) : Nat → Nat := fun l => (IT l).getD i 0 - 1000
theorem la_totalIn {post : Int32 → St1 → Prop} {s i w : Nat} (hC : la_C n m nn sh SL IT TM a3 a4 a5 a6 a7 a8 a9 a10 a12 a13 a14 a15) (hs : s < m) (hi : i < (SL s).length) (hb : (SL s).getD i 0 = 1000) (hw : w ≤ 2)
    (H : ∀ fr' c17, post (la_tot w (la_lo (la_pS sh s) (la_vC IT i) n) (la_hi (la_pS sh s) (la_vC IT i) n) (la_sm (la_vC IT i) (la_pS sh s) n)) (dc, pc, nI n, sp, nd, sf, ft, fr', a1, a2, a3, a4, a5, a6, a7, a8, a9, a10, a11, a12, a13, a14, a15, a16, c17, a18, a19, a20)) :
    wpX_totalIn post (dc, pc, nI n, sp, nd, sf, ft, fr, a1, a2, a3, a4, a5, a6, a7, a8, a9, a10, a11, a12, a13, a14, a15, a16, a17, a18, a19, a20) (nI s) (nI i) (nI w) := by
  have hn := hC.2.1
  have hm := hC.2.2.1
  have hS := hC.1.2.1 _ hs
  unfold wpX_totalIn
  refine la_clear (fun c17 h0 => ?_)
  have hv : ∀ j, j < n → la_vC IT i j < 1000 := fun j hj => by have := la_Ln_2000 hC.1.1 hj i; unfold la_vC; omega
  refine la_lp2 (fun k l f c => wX_totalIn_18 post (nI s) (nI i) (nI w) k (nI (la_lo (la_pS sh s) (la_vC IT i) l)) (la_hi (la_pS sh s) (la_vC IT i) l) (nI (la_sm (la_vC IT i) (la_pS sh s) l)) (nI l) dc pc (nI n) sp nd sf ft f a1 a2 a3 a4 a5 a6 a7 a8 a9 a10 a11 a12 a13 a14 a15 a16 c a18 a19 a20)
    (fun l f c => la_Nm sh SL IT s l c) n 0 fr c17 (Nat.zero_le _) (la_Nm_0 hS.2.2.1 h0) ?_ ?_
  · intro k f c hI
    refine pk_le n n (fun _ => ?_) (fun z => absurd z (by omega))
    unfold la_tot at H
    refine pk_eq w 0 (fun z => ?_) (fun z => pk_eq w 1 (fun z2 => ?_) (fun z2 => ?_))
    · have := H f c
      rw [if_pos z] at this
      exact this
    · have := H f c
      rw [if_neg z, if_pos z2] at this
      exact this
    · have := H f c
      rw [if_neg z, if_neg z2] at this
      exact this
  · intro k l f0 c0 hl hI hk
    have gl := hC.1.1.1 l hl
    refine pk_le n l (fun z => absurd z (by omega)) (fun _ => ⟨pk_in l 60 (by omega), ?_⟩)
    refine pk_eq (sh l) s (fun z => ?_) (fun z => nm_r (nI_1 l) ?_) (by rw [nI_clamp (by omega), gl.1]) rfl (by omega) (by omega)
    · refine la_addLine hC hl z hI (fun fr' c h => ?_)
      have hc : c i = nI (la_vC IT i l) := by
        rw [h i hi hb, la_last_t z]
        rfl
      have hp : la_pS sh s l = true := decide_eq_true z
      have hlo := la_lo_le (la_pS sh s) (la_vC IT i) l
      have hvl := hv l hl
      have key := hk fr' c h
      have k1 : la_lo (la_pS sh s) (la_vC IT i) (l + 1) = if la_lo (la_pS sh s) (la_vC IT i) l ≤ la_vC IT i l then la_lo (la_pS sh s) (la_vC IT i) l else la_vC IT i l := by
        conv => lhs; unfold la_lo
        rw [if_pos hp]
      have k2 : la_hi (la_pS sh s) (la_vC IT i) (l + 1) = if nI (la_vC IT i l) ≤ la_hi (la_pS sh s) (la_vC IT i) l then la_hi (la_pS sh s) (la_vC IT i) l else nI (la_vC IT i l) := by
        conv => lhs; unfold la_hi
        rw [if_pos hp]
      have k3 : la_sm (la_vC IT i) (la_pS sh s) (l + 1) = la_sm (la_vC IT i) (la_pS sh s) l + la_vC IT i l := by
        conv => lhs; unfold la_sm
        rw [if_pos hp]
      rw [k1, k2, k3] at key
      have h91 : ∀ (lo' : Nat) (hi' : Int32), wX_totalIn_18 post (nI s) (nI i) (nI w) k (nI lo') hi' (nI (la_sm (la_vC IT i) (la_pS sh s) l + la_vC IT i l)) (nI (l + 1)) dc pc (nI n) sp nd sf ft fr' a1 a2 a3 a4 a5 a6 a7 a8 a9 a10 a11 a12 a13 a14 a15 a16 c a18 a19 a20 →
          wX_totalIn_91 post (wX_totalIn_18 post (nI s) (nI i) (nI w) k) (nI s) (nI i) (nI w) (nI lo') (nI (la_sm (la_vC IT i) (la_pS sh s) l)) (nI l) hi' dc pc (nI n) sp nd sf ft fr' a1 a2 a3 a4 a5 a6 a7 a8 a9 a10 a11 a12 a13 a14 a15 a16 c a18 a19 a20 := by
        intro lo' hi' q
        unfold wX_totalIn_91
        refine ⟨pk_in i 8 (by omega), nm_r (e' := nI (la_sm (la_vC IT i) (la_pS sh s) l + la_vC IT i l)) ?_ (nm_r (nI_1 l) q)⟩
        rw [nI_clamp (show i < 2 ^ 31 by omega), hc, nI_add]
      have h67 : ∀ (lo' : Nat), wX_totalIn_18 post (nI s) (nI i) (nI w) k (nI lo') (if nI (la_vC IT i l) ≤ la_hi (la_pS sh s) (la_vC IT i) l then la_hi (la_pS sh s) (la_vC IT i) l else nI (la_vC IT i l)) (nI (la_sm (la_vC IT i) (la_pS sh s) l + la_vC IT i l)) (nI (l + 1)) dc pc (nI n) sp nd sf ft fr' a1 a2 a3 a4 a5 a6 a7 a8 a9 a10 a11 a12 a13 a14 a15 a16 c a18 a19 a20 →
          wX_totalIn_67 post (wX_totalIn_18 post (nI s) (nI i) (nI w) k) (nI s) (nI i) (nI w) (la_hi (la_pS sh s) (la_vC IT i) l) (nI (la_sm (la_vC IT i) (la_pS sh s) l)) (nI l) (nI lo') dc pc (nI n) sp nd sf ft fr' a1 a2 a3 a4 a5 a6 a7 a8 a9 a10 a11 a12 a13 a14 a15 a16 c a18 a19 a20 := by
        intro lo' q
        unfold wX_totalIn_67
        rw [nI_clamp (show i < 2 ^ 31 by omega), hc]
        refine ⟨pk_in i 8 (by omega), br_c (fun h => h91 lo' _ ?_) (fun h => ⟨pk_in i 8 (by omega), h91 lo' _ ?_⟩)⟩
        · rw [if_pos h] at q
          exact q
        · rw [if_neg h] at q
          exact q
      refine ⟨pk_in i 8 (by omega), ?_⟩
      rw [nI_clamp (show i < 2 ^ 31 by omega), hc]
      refine pk_le (la_lo (la_pS sh s) (la_vC IT i) l) (la_vC IT i l) (fun h => h67 _ ?_) (fun h => ⟨pk_in i 8 (by omega), h67 _ ?_⟩)
      · rw [if_pos h] at key
        exact key
      · rw [if_neg (by omega)] at key
        exact key
    · have hp : la_pS sh s l = false := decide_eq_false z
      have key := hk f0 c0 (la_Nm_skip hI z)
      have k1 : la_lo (la_pS sh s) (la_vC IT i) (l + 1) = la_lo (la_pS sh s) (la_vC IT i) l := by
        conv => lhs; unfold la_lo
        rw [if_neg (by rw [hp]; decide)]
      have k2 : la_hi (la_pS sh s) (la_vC IT i) (l + 1) = la_hi (la_pS sh s) (la_vC IT i) l := by
        conv => lhs; unfold la_hi
        rw [if_neg (by rw [hp]; decide)]
      have k3 : la_sm (la_vC IT i) (la_pS sh s) (l + 1) = la_sm (la_vC IT i) (la_pS sh s) l := by
        conv => lhs; unfold la_sm
        rw [if_neg (by rw [hp]; decide)]
        rfl
      rw [k1, k2, k3] at key
      exact key
/-- what column answers -/
def la_col (sh : Nat → Nat) (IT : Nat → List Nat) (n l i w : Nat) : Int32 :=
  if 1000 ≤ (IT l).getD i 0 then la_tot w (la_lo (la_pS sh (sh l)) (la_vC IT i) n) (la_hi (la_pS sh (sh l)) (la_vC IT i) n) (la_sm (la_vC IT i) (la_pS sh (sh l)) n) else -2
theorem la_column {post : Int32 → St1 → Prop} {l i w : Nat} (hC : la_C n m nn sh SL IT TM a3 a4 a5 a6 a7 a8 a9 a10 a12 a13 a14 a15) (hl : l < n) (hi : i < (IT l).length) (hw : w ≤ 2)
    (H : ∀ fr' c17, post (la_col sh IT n l i w) (dc, pc, nI n, sp, nd, sf, ft, fr', a1, a2, a3, a4, a5, a6, a7, a8, a9, a10, a11, a12, a13, a14, a15, a16, c17, a18, a19, a20)) : wpX_column post (dc, pc, nI n, sp, nd, sf, ft, fr, a1, a2, a3, a4, a5, a6, a7, a8, a9, a10, a11, a12, a13, a14, a15, a16, a17, a18, a19, a20) (nI l) (nI i) (nI w) := by
  have hn := hC.2.1
  have hm := hC.2.2.1
  have g := hC.1.1.1 l hl
  have hS := hC.1.2.1 _ g.2.1
  have hlen := la_Ln_len hC.1.1 hl
  have hb := la_Ln_bl hC.1.1 hl hi
  have h1000 := la_Sh_1000 hC.1.2.1 g.2.1 i
  unfold wpX_column
  unfold la_col at H
  refine la_isLine hl hn (br_f (by decide) (br_f (nI_pos (by omega)) (pk_le w 3 (fun _ => ⟨pk_in l 60 (by omega), nm_r (e' := nI (sh l)) (by rw [nI_clamp (by omega), g.1]) (br_f (nI_pos (by omega)) ⟨pk_in (sh l) 60 (by omega), ?_⟩)⟩) (fun z => absurd z (by omega)))))
  refine pk_le (SL (sh l)).length i (fun z => absurd z (by omega)) (fun _ => ?_) (by rw [nI_clamp (by omega), hS.1]) rfl (by omega) (by omega)
  rw [la_8, nI_clamp (show 8 * sh l + i < 2 ^ 31 by omega), hS.2.2.2.2 i (by omega)]
  refine ⟨pk_in (8 * sh l + i) 480 (by omega), pk_eq ((SL (sh l)).getD i 0) 1000 (fun z => pk_eq w 3 (fun z2 => absurd z2 (by omega)) (fun z2 => ?_)) (fun z => ?_) rfl rfl (by omega) (by omega)⟩
  · rw [if_pos (hb.mp z)] at H
    exact la_totalIn hC g.2.1 (by omega) z hw H
  · rw [if_neg (fun q => z (hb.mpr q))] at H
    exact H fr a17
/-- the law's check of a column -/
theorem la_col_ok (hC : la_C n m nn sh SL IT TM a3 a4 a5 a6 a7 a8 a9 a10 a12 a13 a14 a15) {l i : Nat} (hl : l < n) (hz : ¬ la_col sh IT n l i 2 = -2) :
    ¬ la_col sh IT n l i 2 < la_col sh IT n l i 0 * nI (la_mem sh n (sh l)) ∧ la_col sh IT n l i 2 ≤ la_col sh IT n l i 1 * nI (la_mem sh n (sh l)) := by
  have hn := hC.2.1
  have hv : ∀ j, j < n → la_vC IT i j < 1000 := fun j hj => by have := la_Ln_2000 hC.1.1 hj i; unfold la_vC; omega
  have hcnt : la_mem sh n (sh l) = la_cnt (la_pS sh (sh l)) n := rfl
  have hpos : 1 ≤ la_cnt (la_pS sh (sh l)) n := by
    have := la_cnt_strict (f := fun _ => false) (g := la_pS sh (sh l)) (k := n) (j := l) (fun j _ z => absurd z (by decide)) hl rfl (decide_eq_true rfl)
    omega
  have h1 := la_lo_sm (la_pS sh (sh l)) (la_vC IT i) n
  have h2 := la_hi_sm (la_pS sh (sh l)) (la_vC IT i) n hv
  have h3 := la_sm_le (la_pS sh (sh l)) (la_vC IT i) n hv
  have h4 := la_cnt_le (la_pS sh (sh l)) n
  unfold la_col at hz ⊢
  by_cases q : 1000 ≤ (IT l).getD i 0
  · rw [if_pos q, if_pos q, if_pos q, hcnt]
    unfold la_tot
    rw [if_neg (show ¬ (2 = 0) by decide), if_neg (show ¬ (2 = 1) by decide), if_pos rfl, if_neg (show ¬ (1 = 0) by decide), if_pos rfl]
    rcases h2 with ⟨e, _⟩ | ⟨h, i1, i2, i3⟩
    · omega
    · rw [i2, pk_mul, pk_mul]
      have hh : h * la_cnt (la_pS sh (sh l)) n ≤ 1000 * 60 := Nat.mul_le_mul (by omega) (by omega)
      exact ⟨nI_nlt h1 (by omega), nI_le i3 (by omega)⟩
  · rw [if_neg q] at hz
    exact absurd rfl hz
end
end
section
/-! patterns: places as bits -/
theorem la_t_sh0 : ∀ l, l < 32 → ((1 : Int32) <<< (nI l &&& 31)).toBitVec = BitVec.twoPow 32 l := by decide +kernel
theorem la_t_shk {n : Nat} (hn : n < 32) (k : Nat) : la_t ((1 : Int32) <<< (nI n &&& 31)) k = decide (k = n) := by
  unfold la_t
  rw [la_t_sh0 n hn, BitVec.getLsbD_twoPow]
  by_cases h : n = k
  · subst h; simp [hn]
  · have h' : ¬ k = n := fun z => h z.symm
    simp [h, h']
theorem la_or0 (x : Int32) : x ||| 0 = x := by
  apply Int32.toBitVec_inj.mp
  rw [Int32.toBitVec_or]
  show x.toBitVec ||| 0#32 = _
  simp
theorem la_or0L (x : Int64) : x ||| 0 = x := by
  apply Int64.toBitVec_inj.mp
  rw [Int64.toBitVec_or]
  show x.toBitVec ||| 0#64 = _
  simp
/-- part q surely takes this item -/
def la_tk (q item bl : Int32) : Prop := (¬ bl = 0 ∧ ¬ q < 1000) ∨ (bl = 0 ∧ ¬ 2000 ≤ q ∧ q = item)
def la_cl (a2 : Nat → Int32) (p : Nat) (x : Int32) : Prop := ∀ k, k < p → la_t x k = true → a2 k = 2002 → la_t x (k + 1) = true
def la_Mg (a2 : Nat → Int32) (p len : Nat) (tk : Nat → Int32 → Prop) (g : Nat → Nat) : Prop :=
  g 0 = 0 ∧ (∀ i, i < len → g i < p ∧ ((a2 (g i) = 2002 ∧ g (i + 1) = g i) ∨ (¬ a2 (g i) = 2002 ∧ tk i (a2 (g i)) ∧ g (i + 1) = g i + 1))) ∧ (g len = p ∨ (g len + 1 = p ∧ a2 (g len) = 2002))
def la_Mt (a2 : Nat → Int32) (p len : Nat) (tk : Nat → Int32 → Prop) : Prop := ∃ g, la_Mg a2 p len tk g
def la_tkS (L : List Nat) : Nat → Int32 → Prop := fun i q => la_tk q (nI (L.getD i 0)) (if L.getD i 0 = 1000 then 1 else 0)
def la_tkL (L : List Nat) : Nat → Int32 → Prop := fun i q => la_tk q (nI (L.getD i 0)) 0
theorem la_takes {post : Int32 → Prop} {q item bl : Int32} (H0 : ¬ la_tk q item bl → post 0) (H1 : post 1) : wpX_takes post () q item bl := by
  unfold la_tk at H0
  refine br_c (fun _ => H1) (fun _ => br_c (fun z => br_c (fun z2 => ?_) (fun z2 => br_c (fun _ => H1) (fun z3 => H0 ?_))) (fun z => br_c (fun z2 => H0 ?_) (fun _ => H1)))
  · have h : ¬ ((¬ bl = 0 ∧ ¬ q < 1000) ∨ (bl = 0 ∧ ¬ 2000 ≤ q ∧ q = item)) := by
      rintro (⟨h1, _⟩ | ⟨_, h2, _⟩)
      · exact h1 z
      · exact h2 z2
    have H := H0 h
    unfold wpX_isNumber
    exact br_c (fun _ => br_t rfl H) (fun _ => br_c (fun _ => br_t rfl H) (fun _ => br_f (by decide) (br_c (fun _ => H1) (fun _ => br_c (fun _ => H) (fun _ => H1)))))
  · rintro (⟨h1, _⟩ | ⟨_, _, h3⟩)
    · exact h1 z
    · exact z3 h3
  · rintro (⟨_, h1⟩ | ⟨h2, _⟩)
    · exact h1 z2
    · exact z h2
section
variable {dc pc ln sp nd sf fr : Int32} {ft : Int64} {a1 a2 a3 a4 a5 a6 a7 a8 a10 a12 a13 a14 a15 a16 a17 a18 a19 a20 : Nat → Int32} {a9 a11 : Nat → Int64}
variable {n m nn : Nat} {sh : Nat → Nat} {SL IT : Nat → List Nat} {TM : Nat → Nat} {p : Nat}
theorem la_overGaps {post : Int32 → Prop} {x : Int32} (hp : p ≤ 8) (H : ∀ r, (∀ k, la_t x k = true → la_t r k = true) → la_cl a2 p r → post r) : wpX_overGaps post (dc, nI p, ln, sp, nd, sf, ft, fr, a1, a2, a3, a4, a5, a6, a7, a8, a9, a10, a11, a12, a13, a14, a15, a16, a17, a18, a19, a20) x := by
  refine pk_loop (σ := Int32) (fun j i w => wX_overGaps_4 post dc (nI p) ln sp nd sf ft fr a1 a2 a3 a4 a5 a6 a7 a8 a9 a10 a11 a12 a13 a14 a15 a16 a17 a18 a19 a20 j w (nI i)) (fun i w => (∀ k, la_t x k = true → la_t w k = true) ∧ ∀ k, k < i → la_t w k = true → a2 k = 2002 → la_t w (k + 1) = true) p 0 x (Nat.zero_le _) ⟨fun _ h => h, fun k hk => absurd hk (Nat.not_lt_zero k)⟩ ?_ ?_
  · intro j w hI
    exact pk_le p p (fun _ => H w hI.1 hI.2) (fun z => absurd z (by omega))
  · intro j i w hi hI hk
    have keep : ∀ z : ¬ (la_t w i = true ∧ a2 i = 2002), wX_overGaps_4 post dc (nI p) ln sp nd sf ft fr a1 a2 a3 a4 a5 a6 a7 a8 a9 a10 a11 a12 a13 a14 a15 a16 a17 a18 a19 a20 j w (nI (i + 1)) := by
      intro z
      refine hk w ⟨hI.1, fun k hk1 h1 h2 => ?_⟩
      by_cases e : k = i
      · subst e
        exact absurd ⟨h1, h2⟩ z
      · exact hI.2 k (by omega) h1 h2
    refine pk_le p i (fun z => absurd z (by omega)) (fun _ => ek_if (la_t_1 (by omega) w) (fun z => ⟨pk_in i 8 (by omega), ?_⟩) (fun z => nm_r (la_or0 w) (nm_r (nI_1 i) (keep (fun q => z q.1)))))
    rw [nI_clamp (show i < 2 ^ 31 by omega)]
    refine br_c (fun z2 => nm_e (nm_r (nI_1 i) ?_)) (fun z2 => nm_r (la_or0 w) (nm_r (nI_1 i) (keep (fun q => z2 q.2))))
    rw [nI_1]
    refine hk _ ⟨fun k hk1 => la_t_orl _ (hI.1 k hk1), fun k hk1 h1 h2 => ?_⟩
    by_cases e : k = i
    · subst e
      exact la_t_orr _ (la_t_sh (k + 1) (by omega))
    · rw [la_t_or, la_t_shk (by omega), decide_eq_false (show ¬ k = i + 1 by omega), Bool.or_false] at h1
      exact la_t_orl _ (hI.2 k (by omega) h1 h2)
theorem la_after {post : Int32 → Prop} {x item bl : Int32} (hp : p ≤ 8)
    (H : ∀ r, (∀ k, k < p → la_t x k = true → a2 k = 2002 → la_t r k = true) → (∀ k, k < p → la_t x k = true → ¬ a2 k = 2002 → la_tk (a2 k) item bl → la_t r (k + 1) = true) → la_cl a2 p r → post r) :
    wpX_after post (dc, nI p, ln, sp, nd, sf, ft, fr, a1, a2, a3, a4, a5, a6, a7, a8, a9, a10, a11, a12, a13, a14, a15, a16, a17, a18, a19, a20) x item bl := by
  refine pk_loop (σ := Int32) (fun j i w => wX_after_6 post x item bl dc (nI p) ln sp nd sf ft fr a1 a2 a3 a4 a5 a6 a7 a8 a9 a10 a11 a12 a13 a14 a15 a16 a17 a18 a19 a20 j w (nI i))
    (fun i w => (∀ k, k < i → la_t x k = true → a2 k = 2002 → la_t w k = true) ∧ (∀ k, k < i → la_t x k = true → ¬ a2 k = 2002 → la_tk (a2 k) item bl → la_t w (k + 1) = true)) p 0 0 (Nat.zero_le _) ⟨fun k hk => absurd hk (Nat.not_lt_zero k), fun k hk => absurd hk (Nat.not_lt_zero k)⟩ ?_ ?_
  · intro j w hI
    exact pk_le p p (fun _ => la_overGaps hp (fun r h1 h2 => H r (fun k q1 q2 q3 => h1 k (hI.1 k q1 q2 q3)) (fun k q1 q2 q3 q4 => h1 _ (hI.2 k q1 q2 q3 q4)) h2)) (fun z => absurd z (by omega))
  · intro j i w hi hI hk
    have step : ∀ w', (∀ k, la_t w k = true → la_t w' k = true) → (la_t x i = true → a2 i = 2002 → la_t w' i = true) → (la_t x i = true → ¬ a2 i = 2002 → la_tk (a2 i) item bl → la_t w' (i + 1) = true) → wX_after_6 post x item bl dc (nI p) ln sp nd sf ft fr a1 a2 a3 a4 a5 a6 a7 a8 a9 a10 a11 a12 a13 a14 a15 a16 a17 a18 a19 a20 j w' (nI (i + 1)) := by
      intro w' h0 h1 h2
      refine hk w' ⟨fun k q1 q2 q3 => ?_, fun k q1 q2 q3 q4 => ?_⟩
      · by_cases e : k = i
        · subst e
          exact h1 q2 q3
        · exact h0 _ (hI.1 k (by omega) q2 q3)
      · by_cases e : k = i
        · subst e
          exact h2 q2 q3 q4
        · exact h0 _ (hI.2 k (by omega) q2 q3 q4)
    refine pk_le p i (fun z => absurd z (by omega)) (fun _ => ek_if (la_t_1 (by omega) x) (fun z => ⟨pk_in i 8 (by omega), ?_⟩) (fun z => nm_r (nI_1 i) (step w (fun _ h => h) (fun h => absurd h z) (fun h => absurd h z))))
    rw [nI_clamp (show i < 2 ^ 31 by omega)]
    refine br_c (fun z2 => nm_e (nm_r (nI_1 i) (step _ (fun k h => la_t_orl _ h) (fun _ _ => la_t_orr _ (la_t_sh i (by omega))) (fun _ h => absurd z2 h)))) (fun z2 => ⟨pk_in i 8 (by omega), ?_⟩)
    refine la_takes (fun z3 => br_t rfl (nm_r (la_or0 w) (nm_r (nI_1 i) (step w (fun _ h => h) (fun _ h => absurd h z2) (fun _ _ h => absurd h z3))))) (br_f (by decide) (nm_e (nm_r (nI_1 i) ?_)))
    rw [nI_1]
    exact step _ (fun k h => la_t_orl _ h) (fun _ h => absurd h z2) (fun _ _ _ => la_t_orr _ (la_t_sh (i + 1) (by omega)))
/-- one item more, for every road through the pattern -/
theorem la_Mg_step {len : Nat} {tk : Nat → Int32 → Prop} {i : Nat} {x r item bl : Int32} (hi : i < len) (he : ∀ q, tk i q → la_tk q item bl) (hx : ∀ g, la_Mg a2 p len tk g → la_t x (g i) = true)
    (h1 : ∀ k, k < p → la_t x k = true → a2 k = 2002 → la_t r k = true) (h2 : ∀ k, k < p → la_t x k = true → ¬ a2 k = 2002 → la_tk (a2 k) item bl → la_t r (k + 1) = true) :
    ∀ g, la_Mg a2 p len tk g → la_t r (g (i + 1)) = true := by
  intro g hg
  have hb := hx g hg
  obtain ⟨q1, q2⟩ := hg.2.1 i hi
  rcases q2 with ⟨c1, c2⟩ | ⟨c1, c2, c3⟩
  · rw [c2]
    exact h1 _ q1 hb c1
  · rw [c3]
    exact h2 _ q1 hb c1 (he _ c2)
theorem la_Mg_end {len : Nat} {tk : Nat → Int32 → Prop} {x : Int32} (hx : ∀ g, la_Mg a2 p len tk g → la_t x (g len) = true) (hc : la_cl a2 p x) (h : la_Mt a2 p len tk) : la_t x p = true := by
  obtain ⟨g, hg⟩ := h
  have hb := hx g hg
  rcases hg.2.2 with e | ⟨e, c⟩
  · rw [← e]; exact hb
  · rw [← e]; exact hc _ (by omega) hb c
theorem la_t1 : la_t 1 0 = true := by decide
theorem la_mayFit {post : Int32 → Prop} {s : Nat} (hC : la_C n m nn sh SL IT TM a3 a4 a5 a6 a7 a8 a9 a10 a12 a13 a14 a15) (hs : s < m) (hp : p ≤ 8) (H0 : ¬ la_Mt a2 p (SL s).length (la_tkS (SL s)) → post 0) (H1 : post 1) : wpX_shapeMayFit post (dc, nI p, ln, sp, nd, sf, ft, fr, a1, a2, a3, a4, a5, a6, a7, a8, a9, a10, a11, a12, a13, a14, a15, a16, a17, a18, a19, a20) (nI s) := by
  have hn := hC.2.1
  have hm := hC.2.2.1
  have hS := hC.1.2.1 _ hs
  unfold wpX_shapeMayFit
  refine la_overGaps hp (fun x0 g1 g2 => ?_)
  refine pk_loop (σ := Int32) (fun j i x => wX_shapeMayFit_8 post (nI s) dc (nI p) ln sp nd sf ft fr a1 a2 a3 a4 a5 a6 a7 a8 a9 a10 a11 a12 a13 a14 a15 a16 a17 a18 a19 a20 j x (nI i)) (fun i x => (∀ g, la_Mg a2 p (SL s).length (la_tkS (SL s)) g → la_t x (g i) = true) ∧ la_cl a2 p x) (SL s).length 0 x0 (Nat.zero_le _) ⟨fun g hg => by rw [hg.1]; exact g1 0 la_t1, g2⟩ ?_ ?_
  · intro j x hI
    refine ⟨pk_in s 60 (by omega), pk_le (SL s).length (SL s).length (fun _ => ek_if (la_t_1 (by omega) x) (fun _ => H1) (fun z => H0 (fun q => z (la_Mg_end hI.1 hI.2 q)))) (fun z => absurd z (by omega)) (by rw [nI_clamp (by omega), hS.1]) rfl (by omega) (by omega)⟩
  · intro j i x hi hI hk
    refine ⟨pk_in s 60 (by omega), pk_le (SL s).length i (fun z => absurd z (by omega)) (fun _ => ?_) (by rw [nI_clamp (by omega), hS.1]) rfl (by omega) (by omega)⟩
    have h1000 := la_Sh_1000 hC.1.2.1 hs i
    refine ⟨pk_in (8 * s + i) 480 (by omega) (la_8 s i), nm_r (e' := nI ((SL s).getD i 0)) (by rw [la_8, nI_clamp (by omega), hS.2.2.2.2 i hi]) ?_⟩
    refine pk_eq ((SL s).getD i 0) 1000 (fun z => ?_) (fun z => ?_) rfl rfl (by omega) (by omega)
    · refine la_after hp (fun r q1 q2 q3 => nm_r (nI_1 i) (hk r ⟨la_Mg_step hi (fun q hq => ?_) hI.1 q1 q2, q3⟩))
      unfold la_tkS at hq
      rw [if_pos z] at hq
      exact hq
    · refine la_after hp (fun r q1 q2 q3 => nm_r (nI_1 i) (hk r ⟨la_Mg_step hi (fun q hq => ?_) hI.1 q1 q2, q3⟩))
      unfold la_tkS at hq
      rw [if_neg z] at hq
      exact hq
theorem la_lineFits {post : Int32 → Prop} {l : Nat} (hC : la_C n m nn sh SL IT TM a3 a4 a5 a6 a7 a8 a9 a10 a12 a13 a14 a15) (hl : l < n) (hp : p ≤ 8) (hN : la_Nm sh SL IT (sh l) (l + 1) a17) (H0 : ¬ la_Mt a2 p (IT l).length (la_tkL (IT l)) → post 0) (H1 : post 1) : wpX_lineFits post (dc, nI p, ln, sp, nd, sf, ft, fr, a1, a2, a3, a4, a5, a6, a7, a8, a9, a10, a11, a12, a13, a14, a15, a16, a17, a18, a19, a20) (nI (sh l)) := by
  have hn := hC.2.1
  have hm := hC.2.2.1
  have g := hC.1.1.1 l hl
  have hs := g.2.1
  have hS := hC.1.2.1 _ hs
  have hlen := la_Ln_len hC.1.1 hl
  unfold wpX_lineFits
  refine la_overGaps hp (fun x0 g1 g2 => ?_)
  refine pk_loop (σ := Int32) (fun j i x => wX_lineFits_8 post (nI (sh l)) dc (nI p) ln sp nd sf ft fr a1 a2 a3 a4 a5 a6 a7 a8 a9 a10 a11 a12 a13 a14 a15 a16 a17 a18 a19 a20 j x (nI i)) (fun i x => (∀ g, la_Mg a2 p (IT l).length (la_tkL (IT l)) g → la_t x (g i) = true) ∧ la_cl a2 p x) (IT l).length 0 x0 (Nat.zero_le _) ⟨fun g hg => by rw [hg.1]; exact g1 0 la_t1, g2⟩ ?_ ?_
  · intro j x hI
    refine ⟨pk_in (sh l) 60 (by omega), pk_le (SL (sh l)).length (IT l).length (fun _ => ek_if (la_t_1 (by omega) x) (fun _ => H1) (fun z => H0 (fun q => z (la_Mg_end hI.1 hI.2 q)))) (fun z => absurd z (by omega)) (by rw [nI_clamp (by omega), hS.1]) rfl (by omega) (by omega)⟩
  · intro j i x hi hI hk
    refine ⟨pk_in (sh l) 60 (by omega), pk_le (SL (sh l)).length i (fun z => absurd z (by omega)) (fun _ => ?_) (by rw [nI_clamp (by omega), hS.1]) rfl (by omega) (by omega)⟩
    have h1000 := la_Sh_1000 hC.1.2.1 hs i
    have hb := la_Ln_bl hC.1.1 hl hi
    have hmap : (SL (sh l)).getD i 0 = la_blk ((IT l).getD i 0) := by rw [← g.2.2.1, la_getD_map]
    refine ⟨pk_in (8 * sh l + i) 480 (by omega) (la_8 _ i), nm_r (e' := nI ((SL (sh l)).getD i 0)) (by rw [la_8, nI_clamp (by omega), hS.2.2.2.2 i (by omega)]) ?_⟩
    refine pk_eq ((SL (sh l)).getD i 0) 1000 (fun z => ⟨pk_in i 8 (by omega), ?_⟩) (fun z => ?_) rfl rfl (by omega) (by omega)
    · refine la_after hp (fun r q1 q2 q3 => nm_r (nI_1 i) (hk r ⟨la_Mg_step hi (fun q hq => ?_) hI.1 q1 q2, q3⟩))
      have e : (1000 : Int32) + a17 (nI i).toNatClampNeg = nI ((IT l).getD i 0) := by
        have q := hb.mp z
        rw [nI_clamp (by omega), hN i (by omega) z, la_last_t rfl, show (1000 : Int32) = nI 1000 from rfl, nI_add]
        congr 1
        omega
      rw [e]
      exact hq
    · refine la_after hp (fun r q1 q2 q3 => nm_r (nI_1 i) (hk r ⟨la_Mg_step hi (fun q hq => ?_) hI.1 q1 q2, q3⟩))
      have q' : ¬ 1000 ≤ (IT l).getD i 0 := fun q => z (hb.mpr q)
      have e : (SL (sh l)).getD i 0 = (IT l).getD i 0 := by
        rw [hmap]
        unfold la_blk
        rw [if_neg q']
      rw [e]
      exact hq
theorem la_linesThatFit {post : Int64 → St1 → Prop} {s : Nat} (hC : la_C n m nn sh SL IT TM a3 a4 a5 a6 a7 a8 a9 a10 a12 a13 a14 a15) (hs : s < m) (hp : p ≤ 8)
    (H : ∀ x fr' c17, (∀ l, l < n → sh l = s → la_Mt a2 p (IT l).length (la_tkL (IT l)) → la_b x l = true) → post x (dc, nI p, nI n, sp, nd, sf, ft, fr', a1, a2, a3, a4, a5, a6, a7, a8, a9, a10, a11, a12, a13, a14, a15, a16, c17, a18, a19, a20)) : wpX_linesThatFit post (dc, nI p, nI n, sp, nd, sf, ft, fr, a1, a2, a3, a4, a5, a6, a7, a8, a9, a10, a11, a12, a13, a14, a15, a16, a17, a18, a19, a20) (nI s) := by
  have hn := hC.2.1
  have hm := hC.2.2.1
  have hS := hC.1.2.1 _ hs
  unfold wpX_linesThatFit
  refine la_clear (fun c17 h0 => ?_)
  refine la_lp3 (fun k l x f c => wX_linesThatFit_9 post (nI s) k x (nI l) dc (nI p) (nI n) sp nd sf ft f a1 a2 a3 a4 a5 a6 a7 a8 a9 a10 a11 a12 a13 a14 a15 a16 c a18 a19 a20)
    (fun l x f c => la_Nm sh SL IT s l c ∧ ∀ j, j < l → sh j = s → la_Mt a2 p (IT j).length (la_tkL (IT j)) → la_b x j = true) n 0 0 fr c17 (Nat.zero_le _) ⟨la_Nm_0 hS.2.2.1 h0, fun j hj => absurd hj (Nat.not_lt_zero j)⟩ ?_ ?_
  · intro k x f c hI
    exact pk_le n n (fun _ => H _ _ _ hI.2) (fun z => absurd z (by omega))
  · intro k l x f c hl hI hk
    obtain ⟨i1, i2⟩ := hI
    have gl := hC.1.1.1 l hl
    refine pk_le n l (fun z => absurd z (by omega)) (fun _ => ⟨pk_in l 60 (by omega), ?_⟩)
    refine pk_eq (sh l) s (fun z => ?_) (fun z => nm_r (nI_1 l) (hk x f c ⟨la_Nm_skip i1 z, fun j hj h1 h2 => ?_⟩)) (by rw [nI_clamp (by omega), gl.1]) rfl (by omega) (by omega)
    · refine la_addLine hC hl z i1 (fun fr' c' h => ?_)
      subst z
      refine la_lineFits hC hl hp h (fun q => br_t rfl (nm_r (la_or0L x) (nm_r (nI_1 l) (hk x fr' c' ⟨h, fun j hj h1 h2 => ?_⟩)))) (br_f (by decide) (nm_e (nm_r (nI_1 l) (hk _ fr' c' ⟨h, fun j hj h1 h2 => ?_⟩))))
      · by_cases e : j = l
        · subst e
          exact absurd h2 q
        · exact i2 j (by omega) h1 h2
      · rw [la_b_or, la_b_sh (by omega)]
        by_cases e : j = l
        · rw [decide_eq_true e, Bool.or_true]
        · rw [i2 j (by omega) h1 h2, Bool.true_or]
    · have e : j ≠ l := fun q => z (q ▸ h1)
      exact i2 j (by omega) h1 h2
theorem la_names {post : Int32 → Prop} (hp : p ≤ 8) (H0 : post 0) (H1 : post 1) : wpX_namesNumbers post (dc, nI p, ln, sp, nd, sf, ft, fr, a1, a2, a3, a4, a5, a6, a7, a8, a9, a10, a11, a12, a13, a14, a15, a16, a17, a18, a19, a20) := by
  refine pk_loop (σ := Unit) (fun j i _ => wX_namesNumbers_2 post dc (nI p) ln sp nd sf ft fr a1 a2 a3 a4 a5 a6 a7 a8 a9 a10 a11 a12 a13 a14 a15 a16 a17 a18 a19 a20 j (nI i)) (fun _ _ => True) p 0 () (Nat.zero_le _) trivial ?_ ?_
  · intro j _ _
    exact pk_le p p (fun _ => H0) (fun z => absurd z (by omega))
  · intro j i _ hi _ hk
    refine pk_le p i (fun z => absurd z (by omega)) (fun _ => ⟨pk_in i 8 (by omega), ?_⟩)
    have K : ∀ r : Int32, (r = 0 → (vp_in (nI i) 8 ∧ ((a2 (nI i).toNatClampNeg < 3000 → ∀ x1_7 : Int32, x1_7 = nI i + 1 → wX_namesNumbers_2 post dc (nI p) ln sp nd sf ft fr a1 a2 a3 a4 a5 a6 a7 a8 a9 a10 a11 a12 a13 a14 a15 a16 a17 a18 a19 a20 j x1_7) ∧ (¬ a2 (nI i).toNatClampNeg < 3000 → post 1)))) ∧ (¬ r = 0 → post 1) :=
      fun r => br_c (fun _ => ⟨pk_in i 8 (by omega), br_c (fun _ => nm_r (nI_1 i) (hk () trivial)) (fun _ => H1)⟩) (fun _ => H1)
    unfold wpX_isNumber
    exact br_c (fun _ => K 0) (fun _ => br_c (fun _ => K 0) (fun _ => K 1))
/-- line l surely fits -/
def la_Ft (sh : Nat → Nat) (SL IT : Nat → List Nat) (a2 : Nat → Int32) (p l : Nat) : Prop :=
  la_Mt a2 p (SL (sh l)).length (la_tkS (SL (sh l))) ∧ la_Mt a2 p (IT l).length (la_tkL (IT l))
theorem la_fit33 {post : St1 → Prop} {x1 : Int32} (hC : la_C n m nn sh SL IT TM a3 a4 a5 a6 a7 a8 a9 a10 a12 a13 a14 a15) (hp : p ≤ 8)
    (H : ∀ ft' fr' c17, (∀ l, l < n → la_Ft sh SL IT a2 p l → la_b ft' l = true) → post (dc, nI p, nI n, nI m, nd, sf, ft', fr', a1, a2, a3, a4, a5, a6, a7, a8, a9, a10, a11, a12, a13, a14, a15, a16, c17, a18, a19, a20)) : ∃ k, wX_fit_33 post x1 k 0 dc (nI p) (nI n) (nI m) nd sf ft fr a1 a2 a3 a4 a5 a6 a7 a8 a9 a10 a11 a12 a13 a14 a15 a16 a17 a18 a19 a20 := by
  have hn := hC.2.1
  have hm := hC.2.2.1
  refine la_lp3 (fun k s x f c => wX_fit_33 post x1 k (nI s) dc (nI p) (nI n) (nI m) nd sf x f a1 a2 a3 a4 a5 a6 a7 a8 a9 a10 a11 a12 a13 a14 a15 a16 c a18 a19 a20)
    (fun s x f c => ∀ l, l < n → sh l < s → la_Ft sh SL IT a2 p l → la_b x l = true) m 0 ft fr a17 (Nat.zero_le _) (fun l _ h => absurd h (Nat.not_lt_zero _)) ?_ ?_
  · intro k x f c hI
    exact pk_le m m (fun _ => H _ _ _ (fun l hl hf => hI l hl (hC.1.1.1 l hl).2.1 hf)) (fun z => absurd z (by omega))
  · intro k s f fr1 c hs hI hk
    refine pk_le m s (fun z => absurd z (by omega)) (fun _ => pk_le p 0 (fun z => ?_) (fun z => ?_))
    · refine H _ _ _ (fun l hl hf => ?_)
      obtain ⟨g, hg⟩ := hf.1
      have g1 := hC.1.1.1 l hl
      have hS := hC.1.2.1 _ g1.2.1
      have := (hg.2.1 0 (by omega)).1
      omega
    · refine la_mayFit hC hs hp (fun q => br_t rfl (nm_r (nI_1 s) (hk f fr1 c (fun l hl h1 h2 => ?_)))) (br_f (by decide) (br_c (fun _ => ?_) (fun _ => ⟨pk_in s 60 (by omega), nm_e (nm_r (nI_1 s) (hk _ fr1 c (fun l hl h1 h2 => ?_)))⟩)))
      · by_cases e : sh l = s
        · subst e
          exact absurd h2.1 q
        · exact hI l hl (by omega) h2
      · refine la_linesThatFit hC hs hp (fun x fr' c' hx => nm_e (nm_r (nI_1 s) (hk _ fr' c' (fun l hl h1 h2 => ?_))))
        rw [la_b_or]
        by_cases e : sh l = s
        · rw [hx l hl e h2.2, Bool.or_true]
        · rw [hI l hl (by omega) h2, Bool.true_or]
      · rw [la_b_or, nI_clamp (show s < 2 ^ 31 by omega), hC.1.2.2.1 s hs l (by omega)]
        by_cases e : sh l = s
        · rw [decide_eq_true ⟨hl, e⟩, Bool.or_true]
        · rw [hI l hl (by omega) h2, Bool.true_or]
theorem la_fit {post : St1 → Prop} (hC : la_C n m nn sh SL IT TM a3 a4 a5 a6 a7 a8 a9 a10 a12 a13 a14 a15) (hp : p ≤ 8)
    (H : ∀ ft' fr' c17, (∀ l, l < n → la_Ft sh SL IT a2 p l → la_b ft' l = true) → post (dc, nI p, nI n, nI m, nd, 1, ft', fr', a1, a2, a3, a4, a5, a6, a7, a8, a9, a10, a11, a12, a13, a14, a15, a16, c17, a18, a19, a20)) : wpX_fit post (dc, nI p, nI n, nI m, nd, 0, ft, fr, a1, a2, a3, a4, a5, a6, a7, a8, a9, a10, a11, a12, a13, a14, a15, a16, a17, a18, a19, a20) :=
  br_t rfl (la_names hp (br_t rfl (la_fit33 hC hp H)) (br_f (by decide) (la_fit33 hC hp H)))
theorem la_fit1 {post : St1 → Prop} (H : post (dc, pc, ln, sp, nd, 1, ft, fr, a1, a2, a3, a4, a5, a6, a7, a8, a9, a10, a11, a12, a13, a14, a15, a16, a17, a18, a19, a20)) : wpX_fit post (dc, pc, ln, sp, nd, 1, ft, fr, a1, a2, a3, a4, a5, a6, a7, a8, a9, a10, a11, a12, a13, a14, a15, a16, a17, a18, a19, a20) := br_f (by decide) H
/-! times -/
def la_cb (TM : Nat → Nat) (t n : Nat) : Nat := la_cnt (fun l => decide (TM l < t)) n
theorem la_cb_eq {t c : Nat} (hc : c ≤ n) (h1 : ∀ l, l < c → TM l < t) (h2 : ∀ l, c ≤ l → l < n → t ≤ TM l) : la_cb TM t n = c := by
  unfold la_cb
  rw [la_cnt_add _ hc (fun j q1 q2 => decide_eq_false (by have := h2 j q1 q2; omega)), la_cnt_eq (g := fun _ => true) (fun j hj => decide_eq_true (h1 j hj)), la_cnt_all]
theorem la_cb_mono {t t' : Nat} (h : t ≤ t') : la_cb TM t n ≤ la_cb TM t' n :=
  la_cnt_mono (fun j _ q => decide_eq_true (Nat.lt_of_lt_of_le (of_decide_eq_true q) h))
theorem la_cb_le (TM : Nat → Nat) (t n : Nat) : la_cb TM t n ≤ n := la_cnt_le _ n
theorem la_below {post : Int32 → Prop} {t : Nat} (h : la_Ln n m sh SL IT TM a3 a4) (hn : n ≤ 60) (ht : t < 2 ^ 31) (H : post (nI (la_cb TM t n))) : wpX_countBelow post (dc, pc, nI n, sp, nd, sf, ft, fr, a1, a2, a3, a4, a5, a6, a7, a8, a9, a10, a11, a12, a13, a14, a15, a16, a17, a18, a19, a20) (nI t) :=
  la_countBelow h hn ht (fun c h1 h2 h3 => by rw [la_cb_eq h1 h2 h3] at H; exact H)
theorem la_upTo {post : Int32 → Prop} {t : Nat} (h : la_Ln n m sh SL IT TM a3 a4) (hn : n ≤ 60) (ht : t ≤ 1000) (H : post (nI (if t < 1000 then la_cb TM (t + 1) n else n))) : wpX_countUpTo post (dc, pc, nI n, sp, nd, sf, ft, fr, a1, a2, a3, a4, a5, a6, a7, a8, a9, a10, a11, a12, a13, a14, a15, a16, a17, a18, a19, a20) (nI t) := by
  refine pk_lt t 1000 (fun z => ?_) (fun z => ?_)
  · rw [if_pos z] at H
    rw [nI_1]
    exact la_below h hn (by omega) H
  · rw [if_neg (by omega)] at H
    exact H
/-- how many fitting lines lie in [c, d) -/
def la_in (ft : Int64) (c d : Nat) : Nat := la_cnt (fun j => la_b ft j && decide (j < d) && !decide (j < c)) 60
theorem la_fitting {post : Int32 → St1 → Prop} {a b : Nat} (hC : la_C n m nn sh SL IT TM a3 a4 a5 a6 a7 a8 a9 a10 a12 a13 a14 a15) (hb : b ≤ 1000) (ha : a ≤ 1000) (H : post (nI (la_in ft (la_cb TM a n) (if b < 1000 then la_cb TM (b + 1) n else n))) (dc, pc, nI n, sp, nd, 1, ft, fr, a1, a2, a3, a4, a5, a6, a7, a8, a9, a10, a11, a12, a13, a14, a15, a16, a17, a18, a19, a20)) : wpX_fitting post (dc, pc, nI n, sp, nd, 1, ft, fr, a1, a2, a3, a4, a5, a6, a7, a8, a9, a10, a11, a12, a13, a14, a15, a16, a17, a18, a19, a20) (nI a) (nI b) := by
  have hn := hC.2.1
  have hA := la_cb_le TM a n
  have hB : (if b < 1000 then la_cb TM (b + 1) n else n) ≤ n := by
    have := la_cb_le TM (b + 1) n
    split <;> omega
  unfold wpX_fitting
  refine la_fit1 (la_below hC.1.1 hn (by omega) (la_upTo hC.1.1 hn hb ?_))
  revert H hB
  generalize (if b < 1000 then la_cb TM (b + 1) n else n) = d
  generalize la_cb TM a n = c at hA ⊢
  intro H hB
  refine pk_le d c (fun z => ?_) (fun z => ?_)
  · have e : la_in ft c d = 0 := by
      unfold la_in
      rw [la_cnt_add _ (Nat.zero_le 60) (fun j _ _ => ?_)]
      · rfl
      · by_cases q : j < d
        · have : j < c := by omega
          simp [this]
        · simp [q]
    rw [e] at H
    exact H
  · refine la_ones ?_
    have e : la_cnt (la_b ((ft &&& (((1 : Int64) <<< ((nI d).toInt64 &&& 63)) - 1)) &&& ((((1 : Int64) <<< ((nI c).toInt64 &&& 63)) - 1) ^^^ (-1)))) 60 = la_in ft c d := by
      refine la_cnt_eq (fun j hj => ?_)
      rw [la_b_and, la_b_and, la_b_not _ (by omega), la_b_lo (by omega) (by omega), la_b_lo (by omega) (by omega)]
    rw [e]
    exact H
theorem la_fitting0 {post : Int32 → St1 → Prop} {a b : Nat} (hC : la_C n m nn sh SL IT TM a3 a4 a5 a6 a7 a8 a9 a10 a12 a13 a14 a15) (hp : p ≤ 8) (hb : b ≤ 1000) (ha : a ≤ 1000)
    (H : ∀ ft' fr' c17, (∀ l, l < n → la_Ft sh SL IT a2 p l → la_b ft' l = true) → post (nI (la_in ft' (la_cb TM a n) (if b < 1000 then la_cb TM (b + 1) n else n))) (dc, nI p, nI n, nI m, nd, 1, ft', fr', a1, a2, a3, a4, a5, a6, a7, a8, a9, a10, a11, a12, a13, a14, a15, a16, c17, a18, a19, a20)) : wpX_fitting post (dc, nI p, nI n, nI m, nd, 0, ft, fr, a1, a2, a3, a4, a5, a6, a7, a8, a9, a10, a11, a12, a13, a14, a15, a16, a17, a18, a19, a20) (nI a) (nI b) := by
  have h1 : ∀ ft' fr' c17, (∀ l, l < n → la_Ft sh SL IT a2 p l → la_b ft' l = true) → wpX_fitting post (dc, nI p, nI n, nI m, nd, 1, ft', fr', a1, a2, a3, a4, a5, a6, a7, a8, a9, a10, a11, a12, a13, a14, a15, a16, c17, a18, a19, a20) (nI a) (nI b) := fun ft' fr' c17 h => la_fitting hC hb ha (H ft' fr' c17 h)
  unfold wpX_fitting
  refine la_fit hC hp (fun ft' fr' c17 h => ?_)
  have h2 := h1 ft' fr' c17 h
  unfold wpX_fitting wpX_fit at h2
  exact h2.2 (by decide)
theorem la_next {post : Int32 → St1 → Prop} {l : Nat} (hC : la_C n m nn sh SL IT TM a3 a4 a5 a6 a7 a8 a9 a10 a12 a13 a14 a15) (hp : p ≤ 8) (hl : l < n) (hF : la_Ft sh SL IT a2 p l)
    (H : ∀ ft' fr' c17, post (nI l) (dc, nI p, nI n, nI m, nd, 1, ft', fr', a1, a2, a3, a4, a5, a6, a7, a8, a9, a10, a11, a12, a13, a14, a15, a16, c17, a18, a19, a20)) : wpX_next post (dc, nI p, nI n, nI m, nd, 0, ft, fr, a1, a2, a3, a4, a5, a6, a7, a8, a9, a10, a11, a12, a13, a14, a15, a16, a17, a18, a19, a20) (nI l - 1) := by
  have hn := hC.2.1
  unfold wpX_next
  refine la_fit hC hp (fun ft' fr' c17 h => ?_)
  have hb := h l hl hF
  have K : wX_next_26 post (nI l) dc (nI p) (nI n) (nI m) nd 1 ft' fr' a1 a2 a3 a4 a5 a6 a7 a8 a9 a10 a11 a12 a13 a14 a15 a16 c17 a18 a19 a20 := by
    refine la_lowest (k := l) (by omega) ?_ (fun j hj => ?_) (pk_le n l (fun z => absurd z (by omega)) (fun _ => H _ _ _))
    · rw [la_b_and, hb, la_b_not _ (by omega), la_b_lo (by omega) (by omega), decide_eq_false (Nat.lt_irrefl l)]
      rfl
    · rw [la_b_and, la_b_not _ (by omega), la_b_lo (by omega) (by omega), decide_eq_true hj]
      simp
  cases l with
  | zero => exact br_f (by decide) K
  | succ l =>
    have e : nI (l + 1) - 1 = nI l := nI_pred l
    dsimp only
    rw [e]
    refine br_t (nI_pos' (by omega)) (br_t (nI_lt (b := 60) (by omega) (by decide)) ?_)
    rw [nI_1]
    exact K
end
end
section
/-! the tree of shapes -/
theorem la_lc_cases (par : Nat → Nat) (q : Nat) : ∀ k, (la_lc par q k = -1 ∧ ∀ c, 1 ≤ c → c < k → par c ≠ q) ∨ ∃ c, 1 ≤ c ∧ c < k ∧ par c = q ∧ la_lc par q k = nI c ∧ ∀ d, c < d → d < k → par d ≠ q
  | 0 => Or.inl ⟨rfl, fun c _ h => absurd h (Nat.not_lt_zero c)⟩
  | k + 1 => by
    unfold la_lc
    by_cases e : 1 ≤ k ∧ par k = q
    · rw [if_pos e]
      exact Or.inr ⟨k, e.1, Nat.lt_succ_self k, e.2, rfl, fun d h1 h2 => absurd h2 (by omega)⟩
    · rw [if_neg e]
      rcases la_lc_cases par q k with ⟨h1, h2⟩ | ⟨c, h1, h2, h3, h4, h5⟩
      · refine Or.inl ⟨h1, fun c c1 c2 z => ?_⟩
        by_cases ec : c = k
        · subst ec
          exact e ⟨c1, z⟩
        · exact h2 c c1 (by omega) z
      · refine Or.inr ⟨c, h1, by omega, h3, h4, fun d d1 d2 z => ?_⟩
        by_cases ed : d = k
        · subst ed
          exact e ⟨by omega, z⟩
        · exact h5 d d1 (by omega) z
theorem la_lc_eq {par par' : Nat → Nat} {q : Nat} : ∀ k, (∀ c, c < k → par' c = par c) → la_lc par' q k = la_lc par q k
  | 0, _ => rfl
  | k + 1, h => by
    unfold la_lc
    rw [la_lc_eq k (fun c hc => h c (by omega)), h k (by omega)]
theorem la_lc_none {par : Nat → Nat} {q : Nat} : ∀ k, (∀ c, 1 ≤ c → c < k → par c ≠ q) → la_lc par q k = -1
  | 0, _ => rfl
  | k + 1, h => by
    unfold la_lc
    rw [if_neg (fun z => h k z.1 (by omega) z.2)]
    exact la_lc_none k (fun c h1 h2 => h c h1 (by omega))
theorem la_ups {α : Type} {f : Nat → α} {k : Nat} {v : α} : va_up f k v k = v := if_pos rfl
theorem la_upn {α : Type} {f : Nat → α} {k j : Nat} {v : α} (h : j ≠ k) : va_up f k v j = f j := if_neg h
/-- a node more, below q -/
theorem la_Tq_new {m nn : Nat} {SL : Nat → List Nat} {a12 a13 a14 a15 : Nat → Int32} {par : Nat → Nat} {path : Nat → List Nat} {q x : Nat} (h : la_Tq m nn SL a12 a13 a14 a15 par path) (hq : q < nn) (hx : x ≤ 1000)
    (hno : ∀ c, 1 ≤ c → c < nn → par c = q → a12 c ≠ nI x) :
    la_Tq m (nn + 1) SL (upd a12 nn (nI x)) (upd (upd a13 nn (-1)) q (nI nn)) (upd (upd a14 nn (-1)) nn (upd a13 nn (-1) q)) (upd a15 nn (-1)) (va_up par nn q) (va_up path nn (path q ++ [x])) := by
  obtain ⟨h1, h2, h3, h4, h5, h6, h7, h8⟩ := h
  have P : ∀ c, c < nn → va_up path nn (path q ++ [x]) c = path c := fun c hc => la_upn (by omega)
  have R : ∀ c, c < nn → va_up par nn q c = par c := fun c hc => la_upn (by omega)
  have fresh : ∀ c, c < nn → path c ≠ path q ++ [x] := by
    intro c hc e
    by_cases c0 : c = 0
    · subst c0
      rw [h2] at e
      exact absurd e (by simp)
    · obtain ⟨c1, y, y1, y2, y3⟩ := h3 c (by omega) hc
      rw [y3] at e
      have e' := List.append_inj' e rfl
      have eq := h4 (par c) q (by omega) hq e'.1
      have ex : y = x := by
        have := e'.2
        simp at this
        exact this
      exact hno c (by omega) hc eq (by rw [y2, ex])
  refine ⟨by omega, by rw [P 0 (by omega), h2], ?_, ?_, ?_, ?_, ?_, ?_⟩
  · intro c c1 c2
    by_cases e : c = nn
    · subst e
      rw [la_ups, la_ups, P q hq]
      exact ⟨hq, x, hx, pk_us, rfl⟩
    · obtain ⟨d1, y, y1, y2, y3⟩ := h3 c c1 (by omega)
      rw [R c (by omega), P c (by omega), P (par c) (by omega), pk_un e]
      exact ⟨d1, y, y1, y2, y3⟩
  · intro c d c1 d1 e
    by_cases ec : c = nn
    · by_cases ed : d = nn
      · omega
      · rw [ec, la_ups, P d (by omega)] at e
        exact absurd e.symm (fresh d (by omega))
    · by_cases ed : d = nn
      · rw [ed, la_ups, P c (by omega)] at e
        exact absurd e (fresh c (by omega))
      · rw [P c (by omega), P d (by omega)] at e
        exact h4 c d (by omega) (by omega) e
  · intro c c1
    conv => rhs; unfold la_lc
    rw [la_ups]
    by_cases e : c = q
    · subst e
      rw [pk_us, if_pos ⟨by omega, rfl⟩]
    · rw [pk_un e, if_neg (fun z => e z.2.symm), la_lc_eq nn R]
      by_cases e2 : c = nn
      · subst e2
        rw [pk_us]
        refine (la_lc_none c (fun d d1 d2 z => ?_)).symm
        have := (h3 d d1 d2).1
        omega
      · rw [pk_un e2]
        exact h5 c (by omega)
  · intro c c1 c2
    by_cases e : c = nn
    · subst e
      rw [pk_us, la_ups, pk_un (by omega), h5 q hq, la_lc_eq c R]
    · rw [pk_un e, pk_un e, R c (by omega), la_lc_eq c (fun d hd => R d (by omega))]
      exact h6 c c1 (by omega)
  · intro c c1
    by_cases e : c = nn
    · subst e
      exact Or.inl pk_us
    · rw [pk_un e, P c (by omega)]
      exact h7 c (by omega)
  · intro s hs
    obtain ⟨c, c1, c2, c3⟩ := h8 s hs
    refine ⟨c, by omega, ?_, ?_⟩
    · rw [pk_un (by omega)]
      exact c2
    · rw [P c c1]
      exact c3
/-- a shape more, at node q -/
theorem la_Tq_shape {m nn : Nat} {SL SL' : Nat → List Nat} {a12 a13 a14 a15 : Nat → Int32} {par : Nat → Nat} {path : Nat → List Nat} {q : Nat} (h : la_Tq m nn SL a12 a13 a14 a15 par path) (hq : q < nn)
    (hno : a15 q = -1) (hm : m < 2 ^ 31) (hS : ∀ s, s < m → SL' s = SL s) (hm' : SL' m = path q) : la_Tq (m + 1) nn SL' a12 a13 a14 (upd a15 q (nI m)) par path := by
  obtain ⟨h1, h2, h3, h4, h5, h6, h7, h8⟩ := h
  refine ⟨h1, h2, h3, h4, h5, h6, ?_, ?_⟩
  · intro c hc
    by_cases e : c = q
    · subst e
      exact Or.inr ⟨m, by omega, pk_us, hm'⟩
    · rw [pk_un e]
      rcases h7 c hc with z | ⟨s, s1, s2, s3⟩
      · exact Or.inl z
      · exact Or.inr ⟨s, by omega, s2, by rw [hS s s1]; exact s3⟩
  · intro s hs
    by_cases e : s = m
    · subst e
      exact ⟨q, hq, pk_us, hm'⟩
    · obtain ⟨c, c1, c2, c3⟩ := h8 s (by omega)
      refine ⟨c, c1, ?_, by rw [hS s (by omega)]; exact c3⟩
      have ec : c ≠ q := by
        intro z
        rw [z, hno] at c2
        have := nI_pos (n := s) (by omega)
        rw [← c2] at this
        exact this (by decide)
      rw [pk_un ec]
      exact c2
theorem la_Tq_SL {m nn : Nat} {SL SL' : Nat → List Nat} {a12 a13 a14 a15 : Nat → Int32} {par : Nat → Nat} {path : Nat → List Nat} (h : la_Tq m nn SL a12 a13 a14 a15 par path) : la_Tr m nn SL a12 a13 a14 a15 := ⟨par, path, h⟩
theorem la_isNumber {post : Int32 → Prop} {x : Nat} (hx : la_item x) (H0 : ¬ 1000 ≤ x → post 0) (H1 : 1000 ≤ x → post 1) : wpX_isNumber post () (nI x) := by
  unfold la_item at hx
  exact pk_lt x 1000 (fun z => H0 (by omega)) (fun z => pk_le 2000 x (fun z2 => absurd z2 (by omega)) (fun _ => H1 z))
theorem la_blanked {post : Int32 → Prop} {x : Nat} (hx : la_item x) (H : post (nI (la_blk x))) : wpX_blanked post () (nI x) := by
  unfold wpX_blanked
  unfold la_blk at H
  refine la_isNumber hx (fun z => br_t rfl ?_) (fun z => br_f (by decide) ?_)
  · rw [if_neg z] at H
    exact H
  · rw [if_pos z] at H
    exact H
section
variable {dc pc ln sp nd sf fr : Int32} {ft : Int64} {a1 a2 a3 a4 a5 a6 a7 a8 a10 a12 a13 a14 a15 a16 a17 a18 a19 a20 : Nat → Int32} {a9 a11 : Nat → Int64}
variable {n m nn : Nat} {sh : Nat → Nat} {SL IT : Nat → List Nat} {TM : Nat → Nat}
theorem la_newNode {post : Int32 → St1 → Prop} {k : Nat} {x : Int32} (hk : k < 484) (H : post (nI k) (dc, pc, ln, sp, nI (k + 1), sf, ft, fr, a1, a2, a3, a4, a5, a6, a7, a8, a9, a10, a11, upd a12 k x, upd a13 k (-1), upd a14 k (-1), upd a15 k (-1), a16, a17, a18, a19, a20)) : wpX_newNode post (dc, pc, ln, sp, nI k, sf, ft, fr, a1, a2, a3, a4, a5, a6, a7, a8, a9, a10, a11, a12, a13, a14, a15, a16, a17, a18, a19, a20) x := by
  unfold wpX_newNode
  dsimp only
  rw [nI_clamp (show k < 2 ^ 31 by omega)]
  refine ⟨pk_in k 484 hk, nm_e ⟨pk_in k 484 hk, nm_e ⟨pk_in k 484 hk, nm_e ⟨pk_in k 484 hk, nm_e (nm_r (nI_1 k) ?_)⟩⟩⟩⟩
  rw [nI_pred]
  exact H
theorem la_stepTo {post : Int32 → St1 → Prop} {par : Nat → Nat} {path : Nat → List Nat} {q x : Nat} (h : la_Tq m nn SL a12 a13 a14 a15 par path) (hq : q < nn) (hx : x ≤ 1000) (hn : nn < 484)
    (H : ∀ c k c12 c13 c14 c15 par' path', k ≤ nn + 1 → la_Tq m k SL c12 c13 c14 c15 par' path' → c < k → path' c = path q ++ [x] → post (nI c) (dc, pc, ln, sp, nI k, sf, ft, fr, a1, a2, a3, a4, a5, a6, a7, a8, a9, a10, a11, c12, c13, c14, c15, a16, a17, a18, a19, a20)) :
    wpX_stepTo post (dc, pc, ln, sp, nI nn, sf, ft, fr, a1, a2, a3, a4, a5, a6, a7, a8, a9, a10, a11, a12, a13, a14, a15, a16, a17, a18, a19, a20) (nI q) (nI x) := by
  have h5 := h.2.2.2.2.1
  have h6 := h.2.2.2.2.2.1
  have h3 := h.2.2.1
  refine ⟨pk_in q 484 (by omega), nm_r (e' := la_lc par q nn) (by rw [nI_clamp (by omega), h5 q hq]) ?_⟩
  refine loop_m (σ := Nat) (fun j k => wX_stepTo_7 post (nI q) (nI x) dc pc ln sp (nI nn) sf ft fr a1 a2 a3 a4 a5 a6 a7 a8 a9 a10 a11 a12 a13 a14 a15 a16 a17 a18 a19 a20 j (la_lc par q k)) (fun k => k ≤ nn ∧ ∀ c, k ≤ c → c < nn → 1 ≤ c → par c = q → a12 c ≠ nI x) (fun k => k) ?_ nn ⟨Nat.le_refl _, fun c h1 h2 => absurd h2 (by omega)⟩
  intro j k hI hk
  obtain ⟨i1, i2⟩ := hI
  rcases la_lc_cases par q k with ⟨e, g⟩ | ⟨c, c1, c2, c3, e, g⟩
  · rw [e]
    refine br_t (by decide) ?_
    unfold wX_stepTo_31
    refine br_f (by decide) (la_newNode hn ⟨pk_in q 484 (by omega), pk_in nn 484 hn, ?_⟩)
    rw [nI_clamp (show nn < 2 ^ 31 by omega), nI_clamp (show q < 2 ^ 31 by omega)]
    refine nm_e ⟨pk_in q 484 (by omega), nm_e ?_⟩
    refine H nn (nn + 1) _ _ _ _ _ _ (Nat.le_refl _) (la_Tq_new h hq hx (fun c c1 c2 c3 => ?_)) (Nat.lt_succ_self _) la_ups
    by_cases z : k ≤ c
    · exact i2 c z c2 c1 c3
    · exact absurd c3 (g c c1 (by omega))
  · rw [e]
    obtain ⟨d1, y, y1, y2, y3⟩ := h3 c c1 (by omega)
    refine br_f (nI_pos (by omega)) ⟨pk_in c 484 (by omega), ?_⟩
    rw [nI_clamp (show c < 2 ^ 31 by omega), y2]
    refine pk_eq y x (fun z => ?_) (fun z => ⟨pk_in c 484 (by omega), ?_⟩)
    · unfold wX_stepTo_31
      refine br_t (nI_pos' (by omega)) (H c nn _ _ _ _ par path (by omega) h (by omega) ?_)
      rw [y3, c3, z]
    · refine nm_r (e' := la_lc par q c) (by rw [h6 c c1 (by omega), c3]) (hk c ⟨by omega, fun d d1 d2 d3 d4 => ?_⟩ c2)
      by_cases ed : d = c
      · rw [ed, y2]
        exact fun w => z ((nI_eq (by omega) (by omega)).mp w)
      · by_cases ek : k ≤ d
        · exact i2 d ek d2 d3 d4
        · exact absurd d4 (g d (by omega) (by omega))
end
end
section
/-! writing a line -/
theorem la_take_s {L : List Nat} {i : Nat} (h : i < L.length) : L.take (i + 1) = L.take i ++ [L.getD i 0] := by
  rw [List.getD_eq_getElem?_getD, List.getElem?_eq_getElem h]
  exact (List.take_append_getElem h).symm
theorem la_last_none {sh : Nat → Nat} {IT : Nat → List Nat} {s i : Nat} : ∀ k, (∀ l, l < k → sh l ≠ s) → la_last sh IT s i k = 0
  | 0, _ => rfl
  | k + 1, h => by
    rw [la_last_f (h k (by omega))]
    exact la_last_none k (fun l hl => h l (by omega))
section
variable {dc pc ln sp nd sf fr : Int32} {ft : Int64} {a1 a2 a3 a4 a5 a6 a7 a8 a10 a12 a13 a14 a15 a16 a17 a18 a19 a20 : Nat → Int32} {a9 a11 : Nat → Int64}
variable {n m nn : Nat} {sh : Nat → Nat} {SL IT : Nat → List Nat} {TM : Nat → Nat} {D : List Nat}
theorem la_79 {post : Int32 → St1 → Prop} {node : Nat} (hm : m < 60) (hD : D.length ≤ 8) (hit : ∀ x, x ∈ D → la_item x) (ha : ∀ i, i < D.length → a1 i = nI (D.getD i 0)) (hnode : node < 484)
    (H : ∀ c8 c10, (∀ i, i < D.length → c8 (8 * m + i) = nI (la_blk (D.getD i 0)) ∧ c10 (8 * m + i) = 0) → (∀ j, j < 8 * m → c8 j = a8 j ∧ c10 j = a10 j) → post (a15 node) (nI D.length, pc, ln, nI (m + 1), nd, sf, ft, fr, a1, a2, a3, a4, a5, a6, a7, c8, a9, c10, a11, a12, a13, a14, a15, a16, a17, a18, a19, a20)) :
    ∃ k, wX_shapeOfDraft_79 post (nI node) (nI D.length) pc ln (nI m) nd sf ft fr k 0 a1 a2 a3 a4 a5 a6 a7 a8 a9 a10 a11 a12 a13 a14 a15 a16 a17 a18 a19 a20 := by
  refine la_lp2 (fun j i c8 c10 => wX_shapeOfDraft_79 post (nI node) (nI D.length) pc ln (nI m) nd sf ft fr j (nI i) a1 a2 a3 a4 a5 a6 a7 c8 a9 c10 a11 a12 a13 a14 a15 a16 a17 a18 a19 a20)
    (fun i c8 c10 => (∀ j, j < i → c8 (8 * m + j) = nI (la_blk (D.getD j 0)) ∧ c10 (8 * m + j) = 0) ∧ (∀ j, j < 8 * m → c8 j = a8 j ∧ c10 j = a10 j)) D.length 0 a8 a10 (Nat.zero_le _) ⟨fun j hj => absurd hj (Nat.not_lt_zero j), fun j _ => ⟨rfl, rfl⟩⟩ ?_ ?_
  · intro j c8 c10 hI
    refine pk_le D.length D.length (fun _ => nm_r (nI_1 m) ⟨pk_in node 484 hnode, ?_⟩) (fun z => absurd z (by omega))
    rw [nI_clamp (show node < 2 ^ 31 by omega)]
    exact H _ _ hI.1 hI.2
  · intro j i c8 c10 hi hI hk
    obtain ⟨i1, i2⟩ := hI
    refine pk_le D.length i (fun z => absurd z (by omega)) (fun _ => ⟨pk_in i 8 (by omega), ?_⟩)
    rw [nI_clamp (show i < 2 ^ 31 by omega), ha i hi]
    refine la_blanked (hit _ (la_getD_mem hi)) ?_
    rw [la_8, nI_clamp (show 8 * m + i < 2 ^ 31 by omega)]
    refine ⟨pk_in (8 * m + i) 480 (by omega), nm_e ⟨pk_in (8 * m + i) 480 (by omega), nm_e (nm_r (nI_1 i) (hk _ _ ⟨fun k hk1 => ?_, fun k hk1 => ?_⟩))⟩⟩
    · by_cases e : k = i
      · subst e
        exact ⟨pk_us, pk_us⟩
      · have h1 := i1 k (by omega)
        rw [pk_un (by omega), pk_un (by omega)]
        exact h1
    · rw [pk_un (by omega), pk_un (by omega)]
      exact i2 k hk1
theorem la_shapeOfDraft {post : Int32 → St1 → Prop} (hC : la_C n m nn sh SL IT TM a3 a4 a5 a6 a7 a8 a9 a10 a12 a13 a14 a15) (hn : n < 60) (hD1 : 1 ≤ D.length) (hD : D.length ≤ 8) (hit : ∀ x, x ∈ D → la_item x) (ha : ∀ i, i < D.length → a1 i = nI (D.getD i 0))
    (H : ∀ s m' nn' SL' c7 c8 c9 c10 c12 c13 c14 c15, la_D n m' nn' sh SL' IT TM a3 a4 a5 a6 c7 c8 c9 c10 c12 c13 c14 c15 → s < m' → SL' s = D.map la_blk → (m' = m ∨ (m' = m + 1 ∧ s = m)) → nn' ≤ nn + 8 →
      post (nI s) (nI D.length, pc, ln, nI m', nI nn', sf, ft, fr, a1, a2, a3, a4, a5, a6, c7, c8, c9, c10, a11, c12, c13, c14, c15, a16, a17, a18, a19, a20)) :
    wpX_shapeOfDraft post (nI D.length, pc, ln, nI m, nI nn, sf, ft, fr, a1, a2, a3, a4, a5, a6, a7, a8, a9, a10, a11, a12, a13, a14, a15, a16, a17, a18, a19, a20) := by
  have hm := hC.2.2.1
  have hnn := hC.2.2.2.1
  obtain ⟨par0, path0, hT0⟩ := hC.1.2.2.2.2.2
  refine la_lp6 (fun j i q k c12 c13 c14 c15 => wX_shapeOfDraft_4 post j (nI q) (nI i) (nI D.length) pc ln (nI m) (nI k) sf ft fr a1 a2 a3 a4 a5 a6 a7 a8 a9 a10 a11 c12 c13 c14 c15 a16 a17 a18 a19 a20)
    (fun i q k c12 c13 c14 c15 => ∃ par path, la_Tq m k SL c12 c13 c14 c15 par path ∧ q < k ∧ k ≤ nn + i ∧ path q = (D.map la_blk).take i) D.length 0 0 nn a12 a13 a14 a15 (Nat.zero_le _)
    ⟨par0, path0, hT0, by have := hT0.1; omega, Nat.le_refl _, by rw [hT0.2.1]; rfl⟩ ?_ ?_
  · intro j q k c12 c13 c14 c15 hI
    obtain ⟨par, path, hT, hq, hk, hp⟩ := hI
    have hp' : path q = D.map la_blk := by
      rw [hp, List.take_of_length_le (by rw [List.length_map]; exact Nat.le_refl _)]
    refine pk_le D.length D.length (fun _ => ⟨pk_in q 484 (by omega), ?_⟩) (fun z => absurd z (by omega))
    rw [nI_clamp (show q < 2 ^ 31 by omega)]
    rcases hT.2.2.2.2.2.2.1 q hq with e | ⟨s, s1, s2, s3⟩
    · rw [e]
      refine br_f (by decide) ⟨pk_in q 484 (by omega), nm_e ⟨pk_in m 60 (by omega), ?_⟩⟩
      rw [nI_clamp (show m < 2 ^ 31 by omega)]
      refine nm_e ⟨pk_in m 60 (by omega), nm_e ?_⟩
      refine la_79 (by omega) hD hit ha (by omega) (fun c8 c10 h1 h2 => ?_)
      rw [pk_us]
      obtain ⟨⟨p1, p2, p3⟩, hS, hB, hBy, hL, hTr⟩ := hC.1
      have u : ∀ s, s < m → va_up SL m (D.map la_blk) s = SL s := fun s hs => la_upn (by omega)
      refine H m (m + 1) k (va_up SL m (D.map la_blk)) _ c8 _ c10 _ _ _ _ ⟨⟨?_, p2, p3⟩, ?_, ?_, hBy, ?_, ⟨par, path, la_Tq_shape hT hq e (by omega) u (by rw [la_ups, hp'])⟩⟩ (by omega) la_ups (Or.inr ⟨rfl, rfl⟩) (by omega)
      · intro l hl
        have g := p1 l hl
        refine ⟨g.1, by have := g.2.1; omega, ?_, g.2.2.2⟩
        rw [u _ g.2.1]
        exact g.2.2.1
      · intro s hs
        by_cases es : s = m
        · subst es
          rw [la_ups, pk_us, List.length_map]
          refine ⟨rfl, hD1, hD, fun x hx => ?_, fun i hi => ?_⟩
          · obtain ⟨y, _, rfl⟩ := List.mem_map.mp hx
            exact la_blk_le y
          · rw [(h1 i hi).1, la_getD_map]
        · have g := hS s (by omega)
          rw [u s (by omega), pk_un es]
          refine ⟨g.1, g.2.1, g.2.2.1, g.2.2.2.1, fun i hi => ?_⟩
          rw [(h2 (8 * s + i) (by omega)).1]
          exact g.2.2.2.2 i hi
      · intro s hs x hx
        by_cases es : s = m
        · subst es
          rw [pk_uLs, la_b_0]
          exact (decide_eq_false (fun z => by have := (p1 x z.1).2.1; omega)).symm
        · rw [pk_uLn es]
          exact hB s (by omega) x hx
      · intro s hs i hi hb
        by_cases es : s = m
        · subst es
          rw [la_ups, List.length_map] at hi
          rw [(h1 i hi).2, la_last_none n (fun l hl z => by have := (p1 l hl).2.1; omega)]
          rfl
        · rw [u s (by omega)] at hi hb
          have g := hS s (by omega)
          rw [(h2 (8 * s + i) (by omega)).2]
          exact hL s (by omega) i hi hb
    · rw [s2]
      refine br_t (nI_pos' (by omega)) ⟨pk_in q 484 (by omega), H s m k SL _ _ _ _ _ _ _ _ ⟨hC.1.1, hC.1.2.1, hC.1.2.2.1, hC.1.2.2.2.1, hC.1.2.2.2.2.1, ⟨par, path, hT⟩⟩ s1 (by rw [s3, hp']) (Or.inl rfl) (by omega)⟩
  · intro j i q k c12 c13 c14 c15 hi hI hk
    obtain ⟨par, path, hT, hq, hk1, hp⟩ := hI
    refine pk_le D.length i (fun z => absurd z (by omega)) (fun _ => ⟨pk_in i 8 (by omega), ?_⟩)
    rw [nI_clamp (show i < 2 ^ 31 by omega), ha i hi]
    refine la_blanked (hit _ (la_getD_mem hi)) (la_stepTo hT hq (la_blk_le _) (by omega) (fun c k' d12 d13 d14 d15 par' path' q1 q2 q3 q4 => nm_r (nI_1 i) (hk c k' d12 d13 d14 d15 ⟨par', path', q2, q3, by omega, ?_⟩)))
    rw [q4, hp, la_take_s (by rw [List.length_map]; exact hi), la_getD_map]
theorem la_bring {post : Int32 → St1 → Prop} {a b q : Nat} (ha : a < 1000) (hb : b < 1000) (hq : q + 2 ≤ 960)
    (H : ∀ q' c6, q' ≤ q + 2 → la_cn c6 q (nI a - nI b) q' → (∀ j, j < q → c6 j = a6 j) → post (nI q') (dc, pc, ln, sp, nd, sf, ft, fr, a1, a2, a3, a4, a5, c6, a7, a8, a9, a10, a11, a12, a13, a14, a15, a16, a17, a18, a19, a20)) : wpX_bringNumber post (dc, pc, ln, sp, nd, sf, ft, fr, a1, a2, a3, a4, a5, a6, a7, a8, a9, a10, a11, a12, a13, a14, a15, a16, a17, a18, a19, a20) (nI q) (nI a - nI b) := by
  have K : ∀ c, c < 2000 → la_dec (nI c) = nI a - nI b → wX_bringNumber_16 post (nI q) (nI c) dc pc ln sp nd sf ft fr a1 a2 a3 a4 a5 a6 a7 a8 a9 a10 a11 a12 a13 a14 a15 a16 a17 a18 a19 a20 := by
    intro c hc hd
    unfold wX_bringNumber_16
    rw [nI_clamp (show q < 2 ^ 31 by omega), nI_1, nI_clamp (show q + 1 < 2 ^ 31 by omega), show nI q + 2 = nI (q + 2) from nI_add q 2]
    refine pk_le 128 c (fun z => ⟨pk_in q 960 (by omega), nm_e ⟨pk_in (q + 1) 960 (by omega), nm_e (H (q + 2) _ (by omega) ?_ (fun j hj => ?_))⟩⟩) (fun z => ⟨pk_in q 960 (by omega), nm_e (H (q + 1) _ (by omega) ?_ (fun j hj => pk_un (by omega)))⟩)
    · rw [← hd]
      exact la_put2 z hc
    · rw [pk_un (by omega), pk_un (by omega)]
    · rw [← hd]
      exact la_put1 z
  unfold wpX_bringNumber
  by_cases h : b ≤ a
  · have e : nI a - nI b = nI (a - b) := pk_sub h
    have := K (2 * (a - b)) (by omega) (by rw [la_dec_e _ (by omega), e])
    refine br_t (by rw [e]; exact nI_pos' (by omega)) ?_
    rw [e, show (2 : Int32) = nI 2 from rfl, pk_mul]
    exact this
  · have e : nI a - nI b = -(nI (b - a)) := la_nneg (by omega)
    have e1 : b - a = (b - a - 1) + 1 := by omega
    have := K (2 * (b - a - 1) + 1) (by omega) (by rw [la_dec_o _ (by omega), e, ← e1])
    have hneg : ¬ 0 ≤ nI a - nI b := by
      have := pk_sneg (a := a) (b := b) (by omega) (by omega)
      exact Int32.not_le.mpr this
    refine br_f hneg ?_
    have e2 : (-2) * (nI a - nI b) - 1 = nI (2 * (b - a - 1) + 1) := by
      rw [e]
      have e3 : nI (b - a) = nI (b - a - 1) + 1 := by rw [nI_1, ← e1]
      have e4 : nI (2 * (b - a - 1) + 1) = 2 * nI (b - a - 1) + 1 := by rw [show (2 : Int32) = nI 2 from rfl, pk_mul, nI_1]
      rw [e3, e4]
      grind
    rw [e2]
    exact this
end
end
section
section
variable {dc pc ln sp nd sf fr : Int32} {ft : Int64} {a1 a2 a3 a4 a5 a6 a7 a8 a10 a12 a13 a14 a15 a16 a17 a18 a19 a20 : Nat → Int32} {a9 a11 : Nat → Int64}
variable {n m nn : Nat} {sh : Nat → Nat} {SL IT : Nat → List Nat} {TM : Nat → Nat} {D : List Nat}
/-- the invariant after a line has been written -/
theorem la_write_ok {s t e : Nat} {pos : Nat → Nat} {c6 c10 : Nat → Int32} (hD : la_D n m nn sh SL IT TM a3 a4 a5 a6 a7 a8 a9 a10 a12 a13 a14 a15) (hn : n < 60) (hm : m ≤ n + 1) (hnn : nn ≤ 1 + 8 * (n + 1)) (he : ∀ u, u < m → u = s ∨ ∃ l, l < n ∧ sh l = u)
    (hs : s < m) (hSL : SL s = D.map la_blk) (hit : ∀ x, x ∈ D → la_item x) (ht : t ≤ 1000) (hlast : ∀ l, l < n → TM l ≤ t)
    (e1 : a5 n = nI e) (e3 : ∀ l, l < n → ∃ pos : Nat → Nat, a5 l = nI (pos 0) ∧ ∀ i, i < (IT l).length → la_Lb sh IT a6 e l pos i)
    (r0 : pos 0 = e) (r1 : pos D.length ≤ 16 * (n + 1)) (r2 : e ≤ pos D.length)
    (r3 : ∀ i, i < D.length → pos (i + 1) ≤ pos D.length ∧ (1000 ≤ D.getD i 0 → la_cn c6 (pos i) (nI (D.getD i 0 - 1000) - nI (la_last sh IT s i n)) (pos (i + 1))) ∧ (¬ 1000 ≤ D.getD i 0 → pos (i + 1) = pos i))
    (k6 : ∀ j, j < e → c6 j = a6 j) (h10 : ∀ i, i < D.length → 1000 ≤ D.getD i 0 → c10 (8 * s + i) = nI (D.getD i 0 - 1000)) (k10 : ∀ j, j < 8 * s ∨ 8 * s + 8 ≤ j → c10 j = a10 j) :
    la_C (n + 1) m nn (va_up sh n s) SL (va_up IT n D) (va_up TM n t) (upd a3 n (nI t)) (upd a4 n (nI s)) (upd a5 (n + 1) (nI (pos D.length))) c6 a7 a8 (vp_updL a9 s (a9 s ||| ((1 : Int64) <<< ((nI n).toInt64 &&& 63)))) c10 a12 a13 a14 a15 := by
  obtain ⟨⟨p1, p2, p3⟩, hS, hB, _, hL, hTr⟩ := hD
  have S1 : ∀ l, l < n → va_up sh n s l = sh l := fun l hl => la_upn (by omega)
  have I1 : ∀ l, l < n → va_up IT n D l = IT l := fun l hl => la_upn (by omega)
  have T1 : ∀ l, l < n → va_up TM n t l = TM l := fun l hl => la_upn (by omega)
  have E : ∀ u i k, k ≤ n → la_last (va_up sh n s) (va_up IT n D) u i k = la_last sh IT u i k := fun u i k hk => la_last_eq (fun l hl => ⟨S1 l (by omega), I1 l (by omega)⟩)
  refine ⟨⟨⟨?_, ?_, ?_⟩, hS, ?_, ⟨pos D.length, pk_us, r1, ?_⟩, ?_, hTr⟩, by omega, hm, hnn, ?_⟩
  · intro l hl
    by_cases el : l = n
    · subst el
      rw [la_ups, la_ups, pk_us]
      exact ⟨rfl, hs, hSL.symm, hit⟩
    · rw [S1 l (by omega), I1 l (by omega), pk_un el]
      exact p1 l (by omega)
  · intro l hl
    by_cases el : l = n
    · subst el
      rw [la_ups, pk_us]
      exact ⟨rfl, ht⟩
    · rw [T1 l (by omega), pk_un el]
      exact p2 l (by omega)
  · intro l k hlk hk
    by_cases ek : k = n
    · subst ek
      rw [la_ups]
      by_cases el : l = k
      · subst el
        rw [la_ups]
        exact Nat.le_refl _
      · rw [T1 l (by omega)]
        exact hlast l (by omega)
    · rw [T1 l (by omega), T1 k (by omega)]
      exact p3 l k hlk (by omega)
  · intro u hu x hx
    by_cases eu : u = s
    · subst eu
      rw [pk_uLs, la_b_or, hB u hu x hx, la_b_sh (by omega)]
      by_cases ex : x = n
      · subst ex
        rw [la_ups]
        simp
      · by_cases xl : x < n
        · rw [S1 x xl]
          have : x < n + 1 := by omega
          simp [xl, ex, this]
        · have : ¬ x < n + 1 := by omega
          simp [xl, ex, this]
    · rw [pk_uLn eu, hB u hu x hx]
      by_cases ex : x = n
      · subst ex
        rw [la_ups]
        have : ¬ s = u := fun z => eu z.symm
        simp [this]
      · by_cases xl : x < n
        · rw [S1 x xl]
          have : x < n + 1 := by omega
          simp [xl, this]
        · have : ¬ x < n + 1 := by omega
          simp [xl, this]
  · intro l hl
    by_cases el : l = n
    · subst el
      refine ⟨pos, by rw [pk_un (by omega), e1, r0], fun i hi => ?_⟩
      rw [la_ups] at hi
      unfold la_Lb
      rw [la_ups, la_ups, E _ _ l (Nat.le_refl l)]
      exact r3 i hi
    · obtain ⟨ps, q1, q2⟩ := e3 l (by omega)
      refine ⟨ps, by rw [pk_un (by omega), q1], fun i hi => ?_⟩
      rw [I1 l (by omega)] at hi
      have q := q2 i hi
      unfold la_Lb at q ⊢
      rw [I1 l (by omega), S1 l (by omega), E _ _ l (by omega)]
      refine ⟨by omega, fun z => la_cn_keep (q.2.1 z) (fun j hj => k6 j (by omega)), q.2.2⟩
  · intro u hu i hi hb
    have g := hS u hu
    by_cases eu : u = s
    · subst eu
      rw [la_last_t la_ups, la_ups]
      rw [hSL, List.length_map] at hi
      rw [hSL, la_getD_map] at hb
      exact h10 i hi ((la_blk_n (hit _ (la_getD_mem hi))).mp hb)
    · rw [la_last_f (by rw [la_ups]; exact fun z => eu z.symm), E _ _ n (Nat.le_refl n), k10 _ (by omega)]
      exact hL u hu i hi hb
  · intro u hu
    rcases he u hu with z | ⟨l, l1, l2⟩
    · exact ⟨n, by omega, by rw [la_ups, z]⟩
    · exact ⟨l, by omega, by rw [S1 l l1, l2]⟩
theorem la_writeDraft {post : Int32 → St1 → Prop} {t : Nat} (hC : la_C n m nn sh SL IT TM a3 a4 a5 a6 a7 a8 a9 a10 a12 a13 a14 a15) (hn : n < 60) (hD1 : 1 ≤ D.length) (hD : D.length ≤ 8) (hit : ∀ x, x ∈ D → la_item x) (ha : ∀ i, i < D.length → a1 i = nI (D.getD i 0)) (ht : t ≤ 1000) (hlast : ∀ l, l < n → TM l ≤ t)
    (H : ∀ m' nn' sh' SL' c3 c4 c5 c6 c7 c8 c9 c10 c11 c12 c13 c14 c15, la_C (n + 1) m' nn' sh' SL' (va_up IT n D) (va_up TM n t) c3 c4 c5 c6 c7 c8 c9 c10 c12 c13 c14 c15 → (∀ l, l < n → sh' l = sh l) →
      post (nI n) (nI D.length, pc, nI (n + 1), nI m', nI nn', 0, ft, fr, a1, a2, c3, c4, c5, c6, c7, c8, c9, c10, c11, c12, c13, c14, c15, a16, a17, a18, a19, a20)) :
    wpX_writeDraft post (nI D.length, pc, nI n, nI m, nI nn, sf, ft, fr, a1, a2, a3, a4, a5, a6, a7, a8, a9, a10, a11, a12, a13, a14, a15, a16, a17, a18, a19, a20) (nI t) := by
  have hm := hC.2.2.1
  have hnn := hC.2.2.2.1
  have hall := hC.2.2.2.2
  unfold wpX_writeDraft
  refine la_shapeOfDraft hC hn hD1 hD hit ha (fun s m' nn' SL' c7 c8 c9 c10 c12 c13 c14 c15 hDD hs hSL hm' hnn' => ?_)
  obtain ⟨e, e1, e2, e3⟩ := hDD.2.2.2.1
  refine ⟨pk_in n 61 (by omega), nm_r (e' := nI e) (by rw [nI_clamp (by omega), e1]) ?_⟩
  refine la_lp4 (fun j i x4 f6 f10 f11 => wX_writeDraft_21 post (nI t) (nI n) (nI s) j x4 (nI i) (nI D.length) pc (nI n) (nI m') (nI nn') sf ft fr a1 a2 a3 a4 a5 f6 c7 c8 c9 f10 f11 c12 c13 c14 c15 a16 a17 a18 a19 a20)
    (fun i x4 f6 f10 f11 => ∃ pos : Nat → Nat, x4 = nI (pos i) ∧ pos 0 = e ∧ pos i ≤ e + 2 * i ∧ e ≤ pos i ∧
      (∀ k, k < i → pos (k + 1) ≤ pos i ∧ (1000 ≤ D.getD k 0 → la_cn f6 (pos k) (nI (D.getD k 0 - 1000) - nI (la_last sh IT s k n)) (pos (k + 1))) ∧ (¬ 1000 ≤ D.getD k 0 → pos (k + 1) = pos k)) ∧
      (∀ k, k < e → f6 k = a6 k) ∧ (∀ k, k < i → 1000 ≤ D.getD k 0 → f10 (8 * s + k) = nI (D.getD k 0 - 1000)) ∧ (∀ k, k < 8 * s ∨ 8 * s + i ≤ k → f10 k = c10 k))
    D.length 0 (nI e) a6 c10 a11 (Nat.zero_le _) ⟨fun _ => e, rfl, rfl, Nat.le_refl e, Nat.le_refl e, fun k hk => absurd hk (Nat.not_lt_zero k), fun _ _ => rfl, fun k hk => absurd hk (Nat.not_lt_zero k), fun _ _ => rfl⟩ ?_ ?_
  · intro j x4 f6 f10 f11 hI
    obtain ⟨pos, p1, p2, p3, p4, p5, p6, p7, p8⟩ := hI
    subst p1
    refine pk_le D.length D.length (fun _ => ?_) (fun z => absurd z (by omega))
    rw [nI_1, nI_clamp (show n + 1 < 2 ^ 31 by omega), nI_clamp (show n < 2 ^ 31 by omega), nI_clamp (show s < 2 ^ 31 by omega)]
    refine ⟨pk_in (n + 1) 61 (by omega), nm_e ⟨pk_in n 60 (by omega), nm_e ⟨pk_in n 60 (by omega), nm_e ⟨pk_in s 60 (by omega), pk_in s 60 (by omega), nm_e (nm_e ?_)⟩⟩⟩⟩
    refine H m' nn' (va_up sh n s) SL' _ _ _ _ _ _ _ _ _ _ _ _ _ (la_write_ok hDD hn (by omega) (by omega) (fun u hu => ?_) hs hSL hit ht hlast e1 e3 p2 (by omega) p4 p5 p6 p7 (fun k hk => p8 k (by omega))) (fun l hl => la_upn (by omega))
    rcases hm' with z | ⟨z1, z2⟩
    · exact Or.inr (hall u (by omega))
    · by_cases eu : u = s
      · exact Or.inl eu
      · exact Or.inr (hall u (by omega))
  · intro j i x4 f6 f10 f11 hi hI hk
    obtain ⟨pos, p1, p2, p3, p4, p5, p6, p7, p8⟩ := hI
    subst p1
    have hitm := hit _ (la_getD_mem hi)
    refine pk_le D.length i (fun z => absurd z (by omega)) (fun _ => ⟨pk_in i 8 (by omega), ?_⟩)
    rw [nI_clamp (show i < 2 ^ 31 by omega), ha i hi]
    refine la_isNumber hitm (fun z => br_t rfl ⟨pk_in i 8 (by omega), ?_⟩) (fun z => br_f (by decide) (nm_r (la_8 s i) ⟨pk_in i 8 (by omega), pk_in (8 * s + i) 480 (by omega), ?_⟩))
    · have h24 : D.getD i 0 < 24 := by unfold la_item at hitm; omega
      refine ⟨pk_in (D.getD i 0) 24 h24, pk_in (D.getD i 0) 24 h24, nm_e (nm_r (nI_1 i) (hk (nI (pos i)) f6 f10 _ ⟨va_up pos (i + 1) (pos i), ?_, ?_, ?_, ?_, ?_, p6, ?_, ?_⟩))⟩
      · rw [la_ups]
      · rw [la_upn (by omega)]; exact p2
      · rw [la_ups]; omega
      · rw [la_ups]; exact p4
      · intro k hk1
        rw [la_ups]
        by_cases ek : k = i
        · subst ek
          rw [la_ups, la_upn (show k ≠ k + 1 by omega)]
          exact ⟨Nat.le_refl _, fun q => absurd q z, fun _ => rfl⟩
        · rw [la_upn (show k + 1 ≠ i + 1 by omega), la_upn (show k ≠ i + 1 by omega)]
          exact p5 k (by omega)
      · intro k hk1 hk2
        by_cases ek : k = i
        · subst ek
          exact absurd hk2 z
        · exact p7 k (by omega) hk2
      · intro k hk1
        exact p8 k (by omega)
    · have hbl : (SL' s).getD i 0 = 1000 := by rw [hSL, la_getD_map]; exact (la_blk_n hitm).mpr z
      have hlen : i < (SL' s).length := by rw [hSL, List.length_map]; exact hi
      have h10 : f10 (8 * s + i) = nI (la_last sh IT s i n) := by
        rw [p8 _ (by omega)]
        exact hDD.2.2.2.2.1 s hs i hlen hbl
      have hla := la_Ln_last hDD.1 (Nat.le_refl n) s i
      have h2000 : D.getD i 0 < 2000 := by unfold la_item at hitm; omega
      have e4 : nI (D.getD i 0) - 1000 = nI (D.getD i 0 - 1000) := pk_sub (b := 1000) z
      rw [nI_clamp (show 8 * s + i < 2 ^ 31 by omega), h10, e4]
      refine la_bring (by omega) hla (by omega) (fun q' g6 g1 g2 g3 => ⟨pk_in i 8 (by omega), pk_in (8 * s + i) 480 (by omega), ?_⟩)
      rw [ha i hi, e4]
      refine nm_e (nm_r (nI_1 i) (hk (nI q') g6 _ f11 ⟨va_up pos (i + 1) q', ?_, ?_, ?_, ?_, ?_, ?_, ?_, ?_⟩))
      · rw [la_ups]
      · rw [la_upn (by omega)]; exact p2
      · rw [la_ups]; omega
      · have := la_cn_lt g2
        rw [la_ups]; omega
      · intro k hk1
        have hlt := la_cn_lt g2
        rw [la_ups]
        by_cases ek : k = i
        · subst ek
          rw [la_ups, la_upn (show k ≠ k + 1 by omega)]
          exact ⟨Nat.le_refl _, fun _ => g2, fun q => absurd z q⟩
        · rw [la_upn (show k + 1 ≠ i + 1 by omega), la_upn (show k ≠ i + 1 by omega)]
          have h5 := p5 k (by omega)
          exact ⟨by omega, fun q => la_cn_keep (h5.2.1 q) (fun w hw => g3 w (by omega)), h5.2.2⟩
      · intro k hk1
        rw [g3 k (by omega)]
        exact p6 k hk1
      · intro k hk1 hk2
        by_cases ek : k = i
        · subst ek
          rw [pk_us]
        · rw [pk_un (by omega)]
          exact p7 k (by omega) hk2
      · intro k hk1
        rw [pk_un (by omega)]
        exact p8 k (by omega)
theorem la_write {post : Int32 → St1 → Prop} {t : Nat} (hC : la_C n m nn sh SL IT TM a3 a4 a5 a6 a7 a8 a9 a10 a12 a13 a14 a15) (hn : n < 60) (hD1 : 1 ≤ D.length) (hD : D.length ≤ 8) (hit : ∀ x, x ∈ D → la_item x) (ha : ∀ i, i < D.length → a1 i = nI (D.getD i 0)) (ht : t ≤ 1000) (hlast : ∀ l, l < n → TM l ≤ t)
    (H : ∀ m' nn' sh' SL' c3 c4 c5 c6 c7 c8 c9 c10 c11 c12 c13 c14 c15, la_C (n + 1) m' nn' sh' SL' (va_up IT n D) (va_up TM n t) c3 c4 c5 c6 c7 c8 c9 c10 c12 c13 c14 c15 → (∀ l, l < n → sh' l = sh l) →
      post (nI n) (0, pc, nI (n + 1), nI m', nI nn', 0, ft, fr, a1, a2, c3, c4, c5, c6, c7, c8, c9, c10, c11, c12, c13, c14, c15, a16, a17, a18, a19, a20)) :
    wpX_write post (nI D.length, pc, nI n, nI m, nI nn, sf, ft, fr, a1, a2, a3, a4, a5, a6, a7, a8, a9, a10, a11, a12, a13, a14, a15, a16, a17, a18, a19, a20) (nI t) := by
  have K : wX_write_35 post (nI t) (nI D.length) pc (nI n) (nI m) (nI nn) sf ft fr a1 a2 a3 a4 a5 a6 a7 a8 a9 a10 a11 a12 a13 a14 a15 a16 a17 a18 a19 a20 := by
    unfold wX_write_35
    exact br_f (nI_ne0 (by omega) (by omega)) (br_t (nI_lt (b := 60) hn (by decide)) (la_writeDraft hC hn hD1 hD hit ha ht hlast H))
  refine br_f (nI_pos (by omega)) (pk_lt 1000 t (fun z => absurd z (by omega)) (fun _ => pk_le n 0 (fun _ => K) (fun z => ?_)))
  have e : nI n - 1 = nI (n - 1) := pk_sub (b := 1) (by omega)
  rw [e, nI_clamp (show n - 1 < 2 ^ 31 by omega), (hC.1.1.2.1 (n - 1) (by omega)).1]
  have h1 := (hC.1.1.2.1 (n - 1) (by omega)).2
  have h2 := hlast (n - 1) (by omega)
  exact ⟨pk_in (n - 1) 60 (by omega), pk_le (TM (n - 1)) t (fun _ => K) (fun z => absurd z (by omega))⟩
theorem la_isItem {post : Int32 → Prop} {x : Nat} (hx : la_item x) (H : post 1) : wpX_isItem post () (nI x) := by
  have h := hx
  unfold la_item at h
  refine br_f (nI_pos (by omega)) (pk_lt x 24 (fun _ => H) (fun z => ?_))
  unfold wX_isItem_10
  exact la_isNumber hx (fun q => absurd q (by omega)) (fun _ => br_f (by decide) H)
theorem la_addItem {post : Int32 → St1 → Prop} {x d : Nat} (hx : la_item x) (hd : d < 8) (H : post (nI (d + 1)) (nI (d + 1), pc, ln, sp, nd, sf, ft, fr, upd a1 d (nI x), a2, a3, a4, a5, a6, a7, a8, a9, a10, a11, a12, a13, a14, a15, a16, a17, a18, a19, a20)) : wpX_item post (nI d, pc, ln, sp, nd, sf, ft, fr, a1, a2, a3, a4, a5, a6, a7, a8, a9, a10, a11, a12, a13, a14, a15, a16, a17, a18, a19, a20) (nI x) := by
  unfold wpX_item
  refine la_isItem hx (br_f (by decide) (br_t (nI_lt (b := 8) hd (by decide)) ⟨pk_in d 8 hd, ?_⟩))
  rw [nI_clamp (show d < 2 ^ 31 by omega)]
  exact nm_e (nm_r (nI_1 d) H)
end
end
section
section
variable {dc pc ln sp nd sf fr : Int32} {ft : Int64} {a1 a2 a3 a4 a5 a6 a7 a8 a10 a12 a13 a14 a15 a16 a17 a18 a19 a20 : Nat → Int32} {a9 a11 : Nat → Int64}
variable {n m nn : Nat} {sh : Nat → Nat} {SL IT : Nat → List Nat} {TM : Nat → Nat}
theorem la_empty {post : St1 → Prop} (sh : Nat → Nat) (SL IT : Nat → List Nat) (TM : Nat → Nat)
    (H : ∀ c5 c11 c12 c13 c14 c15, la_C 0 0 1 sh SL IT TM a3 a4 c5 a6 a7 a8 a9 a10 c12 c13 c14 c15 → post (dc, pc, nI 0, nI 0, nI 1, 0, ft, fr, a1, a2, a3, a4, c5, a6, a7, a8, a9, a10, c11, c12, c13, c14, c15, a16, a17, a18, a19, a20)) : wpX_empty post (dc, pc, ln, sp, nd, sf, ft, fr, a1, a2, a3, a4, a5, a6, a7, a8, a9, a10, a11, a12, a13, a14, a15, a16, a17, a18, a19, a20) := by
  unfold wpX_empty
  refine nm_e (la_newNode (k := 0) (by decide) ?_)
  refine pk_loop (fun k i c => wX_empty_30 post dc pc 0 0 (nI (0 + 1)) sf ft fr k (nI i) a1 a2 a3 a4 (upd a5 0 0) a6 a7 a8 a9 a10 c (upd a12 0 (-1)) (upd a13 0 (-1)) (upd a14 0 (-1)) (upd a15 0 (-1)) a16 a17 a18 a19 a20) (fun _ _ => True) 24 0 a11 (by omega) trivial ?_ ?_
  · intro k c _
    refine pk_le 24 24 (fun _ => H _ _ _ _ _ _ ?_) (fun z => absurd z (by omega))
    refine ⟨⟨⟨fun l hl => absurd hl (Nat.not_lt_zero l), fun l hl => absurd hl (Nat.not_lt_zero l), fun l k _ hk => absurd hk (Nat.not_lt_zero k)⟩, fun s hs => absurd hs (Nat.not_lt_zero s), fun s hs => absurd hs (Nat.not_lt_zero s), ⟨0, pk_us, Nat.le_refl _, fun l hl => absurd hl (Nat.not_lt_zero l)⟩, fun s hs => absurd hs (Nat.not_lt_zero s),
      ⟨fun _ => 0, fun _ => [], Nat.le_refl 1, rfl, fun c h1 h2 => absurd h2 (by omega), fun c d h1 h2 _ => by omega, fun q hq => ?_, fun c h1 h2 => absurd h2 (by omega), fun c hc => Or.inl ?_, fun s hs => absurd hs (Nat.not_lt_zero s)⟩⟩, by omega, Nat.le_refl 0, by omega, fun s hs => absurd hs (Nat.not_lt_zero s)⟩
    · have : q = 0 := by omega
      subst this
      rw [pk_us]
      exact (la_lc_none 1 (fun c h1 h2 => absurd h2 (by omega))).symm
    · have : c = 0 := by omega
      subst this
      rw [pk_us]
  · intro k i c hi _ hk
    exact pk_le 24 i (fun z => absurd z (by omega)) (fun _ => ⟨pk_in i 24 hi, nm_e (nm_r (nI_1 i) (hk _ trivial))⟩)
theorem la_keep {post : St1 → Prop} (H : post (0, pc, ln, sp, nd, sf, ft, fr, a1, a2, a3, a4, a5, a6, a7, a8, a9, a10, a11, a12, a13, a14, a15, a16, upd a17 0 0, a18, a19, a20)) : wpX_keepDraft post (0, pc, ln, sp, nd, sf, ft, fr, a1, a2, a3, a4, a5, a6, a7, a8, a9, a10, a11, a12, a13, a14, a15, a16, a17, a18, a19, a20) :=
  nm_e ⟨1, br_t (by decide) H⟩
theorem la_bringD {post : St1 → Prop} (h : a17 0 = 0) (H : post (0, pc, ln, sp, nd, sf, ft, fr, a1, a2, a3, a4, a5, a6, a7, a8, a9, a10, a11, a12, a13, a14, a15, a16, a17, a18, a19, a20)) : wpX_bringDraft post (dc, pc, ln, sp, nd, sf, ft, fr, a1, a2, a3, a4, a5, a6, a7, a8, a9, a10, a11, a12, a13, a14, a15, a16, a17, a18, a19, a20) :=
  nm_r h ⟨1, br_t (by decide) H⟩
/-- line k of what is left stands in rest -/
def la_Rs (IT : Nat → List Nat) (TM : Nat → Nat) (g k : Nat) (a18 a19 a20 : Nat → Int32) : Prop :=
  a19 k = nI (IT (g + k)).length ∧ a20 k = nI (TM (g + k)) ∧ ∀ i, i < (IT (g + k)).length → a18 (8 * k + i) = nI ((IT (g + k)).getD i 0)
theorem la_exp76 {post : Int32 → St1 → Prop} {J : Int32 → Int32 → Int32 → Int32 → Int32 → Int32 → Int32 → Int64 → Int32 → (Nat → Int32) → (Nat → Int32) → (Nat → Int32) → (Nat → Int32) → (Nat → Int32) → (Nat → Int32) → (Nat → Int32) → (Nat → Int32) → (Nat → Int64) → (Nat → Int32) → (Nat → Int64) → (Nat → Int32) → (Nat → Int32) → (Nat → Int32) → (Nat → Int32) → (Nat → Int32) → (Nat → Int32) → (Nat → Int32) → (Nat → Int32) → (Nat → Int32) → Prop}
    {x2 x3 : Int32} {k : Nat} {D : List Nat} (hk : k < 60) (hD : D.length ≤ 8) (h19 : a19 k = nI D.length) (h16 : ∀ i, i < D.length → a16 i = nI (D.getD i 0))
    (H : ∀ c18, (∀ i, i < D.length → c18 (8 * k + i) = nI (D.getD i 0)) → (∀ j, j < 8 * k → c18 j = a18 j) → J (nI (k + 1)) dc pc ln sp nd sf ft fr a1 a2 a3 a4 a5 a6 a7 a8 a9 a10 a11 a12 a13 a14 a15 a16 a17 c18 a19 a20) : ∃ j, wX_expire_76 post J x2 x3 (nI k) dc pc ln sp nd sf ft fr j 0 a1 a2 a3 a4 a5 a6 a7 a8 a9 a10 a11 a12 a13 a14 a15 a16 a17 a18 a19 a20 := by
  refine pk_loop (fun j i c => wX_expire_76 post J x2 x3 (nI k) dc pc ln sp nd sf ft fr j (nI i) a1 a2 a3 a4 a5 a6 a7 a8 a9 a10 a11 a12 a13 a14 a15 a16 a17 c a19 a20) (fun i c => (∀ t, t < i → c (8 * k + t) = nI (D.getD t 0)) ∧ ∀ t, t < 8 * k → c t = a18 t) D.length 0 a18 (Nat.zero_le _) ⟨fun t ht => absurd ht (Nat.not_lt_zero t), fun _ _ => rfl⟩ ?_ ?_
  · intro j c hI
    exact ⟨pk_in k 60 hk, pk_le D.length D.length (fun _ => nm_r (nI_1 k) (H c hI.1 hI.2)) (fun z => absurd z (by omega)) (by rw [nI_clamp (by omega), h19]) rfl (by omega) (by omega)⟩
  · intro j i c hi hI hw
    refine ⟨pk_in k 60 hk, pk_le D.length i (fun z => absurd z (by omega)) (fun _ => ?_) (by rw [nI_clamp (by omega), h19]) rfl (by omega) (by omega)⟩
    rw [la_8, nI_clamp (show 8 * k + i < 2 ^ 31 by omega), nI_clamp (show i < 2 ^ 31 by omega), h16 i hi]
    refine ⟨pk_in i 8 (by omega), pk_in (8 * k + i) 480 (by omega), nm_e (nm_r (nI_1 i) (hw _ ⟨fun t ht => ?_, fun t ht => ?_⟩))⟩
    · by_cases e : t = i
      · rw [e, pk_us]
      · rw [pk_un (by omega)]
        exact hI.1 t (by omega)
    · rw [pk_un (by omega)]
      exact hI.2 t ht
theorem la_exp151 {post : Int32 → St1 → Prop} {J : Int32 → Int32 → Int32 → Int32 → Int32 → Int32 → Int32 → Int64 → Int32 → (Nat → Int32) → (Nat → Int32) → (Nat → Int32) → (Nat → Int32) → (Nat → Int32) → (Nat → Int32) → (Nat → Int32) → (Nat → Int32) → (Nat → Int64) → (Nat → Int32) → (Nat → Int64) → (Nat → Int32) → (Nat → Int32) → (Nat → Int32) → (Nat → Int32) → (Nat → Int32) → (Nat → Int32) → (Nat → Int32) → (Nat → Int32) → (Nat → Int32) → Prop}
    {x2 x3 : Int32} {k t : Nat} {D : List Nat} (hk : k < 60) (hD : D.length ≤ 8) (h20 : a20 k = nI t) (h18 : ∀ i, i < D.length → a18 (8 * k + i) = nI (D.getD i 0))
    (H : ∀ c1, (∀ i, i < D.length → c1 i = nI (D.getD i 0)) → wpX_writeDraft (fun r u => match u with | (dc, pc, ln, sp, nd, sf, ft, fr, a1, a2, a3, a4, a5, a6, a7, a8, a9, a10, a11, a12, a13, a14, a15, a16, a17, a18, a19, a20) => ∀ x4 : Int32, x4 = nI k + 1 → J x4 dc pc ln sp nd sf ft fr a1 a2 a3 a4 a5 a6 a7 a8 a9 a10 a11 a12 a13 a14 a15 a16 a17 a18 a19 a20) (nI D.length, pc, ln, sp, nd, sf, ft, fr, c1, a2, a3, a4, a5, a6, a7, a8, a9, a10, a11, a12, a13, a14, a15, a16, a17, a18, a19, a20) (nI t)) :
    ∃ j, wX_expire_151 post J x2 x3 (nI k) (nI D.length) pc ln sp nd sf ft fr j 0 a1 a2 a3 a4 a5 a6 a7 a8 a9 a10 a11 a12 a13 a14 a15 a16 a17 a18 a19 a20 := by
  refine pk_loop (fun j i c => wX_expire_151 post J x2 x3 (nI k) (nI D.length) pc ln sp nd sf ft fr j (nI i) c a2 a3 a4 a5 a6 a7 a8 a9 a10 a11 a12 a13 a14 a15 a16 a17 a18 a19 a20) (fun i c => ∀ u, u < i → c u = nI (D.getD u 0)) D.length 0 a1 (Nat.zero_le _) (fun u hu => absurd hu (Nat.not_lt_zero u)) ?_ ?_
  · intro j c hI
    refine pk_le D.length D.length (fun _ => ⟨pk_in k 60 hk, ?_⟩) (fun z => absurd z (by omega))
    rw [nI_clamp (show k < 2 ^ 31 by omega), h20]
    exact H c hI
  · intro j i c hi hI hw
    refine pk_le D.length i (fun z => absurd z (by omega)) (fun _ => ?_)
    rw [la_8, nI_clamp (show 8 * k + i < 2 ^ 31 by omega), nI_clamp (show i < 2 ^ 31 by omega), h18 i hi]
    refine ⟨pk_in (8 * k + i) 480 (by omega), pk_in i 8 (by omega), nm_e (nm_r (nI_1 i) (hw _ (fun u hu => ?_)))⟩
    by_cases e : u = i
    · rw [e, pk_us]
    · rw [pk_un e]
      exact hI u (by omega)
/-- the second loop of expire -/
theorem la_exp131 {post : Int32 → St1 → Prop} {g q : Nat} (hq : q ≤ 60) (h0 : a17 0 = 0) (hR : ∀ k, k < q → la_Rs IT TM g k a18 a19 a20)
    (hI : ∀ k, k < q → 1 ≤ (IT (g + k)).length ∧ (IT (g + k)).length ≤ 8 ∧ (∀ x, x ∈ IT (g + k) → la_item x) ∧ TM (g + k) ≤ 1000) (hS : ∀ j k, j ≤ k → k < q → TM (g + j) ≤ TM (g + k))
    (hC : la_C 0 m nn sh SL (fun j => IT (g + j)) (fun j => TM (g + j)) a3 a4 a5 a6 a7 a8 a9 a10 a12 a13 a14 a15)
    (H : ∀ m' nn' sh' SL' c1 c3 c4 c5 c6 c7 c8 c9 c10 c11 c12 c13 c14 c15, la_C q m' nn' sh' SL' (fun j => IT (g + j)) (fun j => TM (g + j)) c3 c4 c5 c6 c7 c8 c9 c10 c12 c13 c14 c15 →
      post (nI g) (0, pc, nI q, nI m', nI nn', 0, ft, fr, c1, a2, c3, c4, c5, c6, c7, c8, c9, c10, c11, c12, c13, c14, c15, a16, a17, a18, a19, a20)) :
    ∃ k, wX_expire_131 post (nI g) (nI q) k 0 dc pc (nI 0) (nI m) (nI nn) 0 ft fr a1 a2 a3 a4 a5 a6 a7 a8 a9 a10 a11 a12 a13 a14 a15 a16 a17 a18 a19 a20 := by
  refine pk_loop (σ := St1) (fun k i u => wX_expire_131 post (nI g) (nI q) k (nI i) u.1 u.2.1 u.2.2.1 u.2.2.2.1 u.2.2.2.2.1 u.2.2.2.2.2.1 u.2.2.2.2.2.2.1 u.2.2.2.2.2.2.2.1 u.2.2.2.2.2.2.2.2.1 u.2.2.2.2.2.2.2.2.2.1 u.2.2.2.2.2.2.2.2.2.2.1 u.2.2.2.2.2.2.2.2.2.2.2.1 u.2.2.2.2.2.2.2.2.2.2.2.2.1 u.2.2.2.2.2.2.2.2.2.2.2.2.2.1 u.2.2.2.2.2.2.2.2.2.2.2.2.2.2.1 u.2.2.2.2.2.2.2.2.2.2.2.2.2.2.2.1 u.2.2.2.2.2.2.2.2.2.2.2.2.2.2.2.2.1 u.2.2.2.2.2.2.2.2.2.2.2.2.2.2.2.2.2.1 u.2.2.2.2.2.2.2.2.2.2.2.2.2.2.2.2.2.2.1 u.2.2.2.2.2.2.2.2.2.2.2.2.2.2.2.2.2.2.2.1 u.2.2.2.2.2.2.2.2.2.2.2.2.2.2.2.2.2.2.2.2.1 u.2.2.2.2.2.2.2.2.2.2.2.2.2.2.2.2.2.2.2.2.2.1 u.2.2.2.2.2.2.2.2.2.2.2.2.2.2.2.2.2.2.2.2.2.2.1 u.2.2.2.2.2.2.2.2.2.2.2.2.2.2.2.2.2.2.2.2.2.2.2.1 u.2.2.2.2.2.2.2.2.2.2.2.2.2.2.2.2.2.2.2.2.2.2.2.2.1 u.2.2.2.2.2.2.2.2.2.2.2.2.2.2.2.2.2.2.2.2.2.2.2.2.2.1 u.2.2.2.2.2.2.2.2.2.2.2.2.2.2.2.2.2.2.2.2.2.2.2.2.2.2.1 u.2.2.2.2.2.2.2.2.2.2.2.2.2.2.2.2.2.2.2.2.2.2.2.2.2.2.2)
    (fun i u => ∃ dc' m' nn' sh' SL' c1 c3 c4 c5 c6 c7 c8 c9 c10 c11 c12 c13 c14 c15, la_C i m' nn' sh' SL' (fun j => IT (g + j)) (fun j => TM (g + j)) c3 c4 c5 c6 c7 c8 c9 c10 c12 c13 c14 c15 ∧
      u = (dc', pc, nI i, nI m', nI nn', 0, ft, fr, c1, a2, c3, c4, c5, c6, c7, c8, c9, c10, c11, c12, c13, c14, c15, a16, a17, a18, a19, a20))
    q 0 (dc, pc, nI 0, nI m, nI nn, 0, ft, fr, a1, a2, a3, a4, a5, a6, a7, a8, a9, a10, a11, a12, a13, a14, a15, a16, a17, a18, a19, a20) (Nat.zero_le _) ⟨dc, m, nn, sh, SL, a1, a3, a4, a5, a6, a7, a8, a9, a10, a11, a12, a13, a14, a15, hC, rfl⟩ ?_ ?_
  · rintro k u ⟨dc', m', nn', sh', SL', c1, c3, c4, c5, c6, c7, c8, c9, c10, c11, c12, c13, c14, c15, hC', rfl⟩
    exact pk_le q q (fun _ => la_bringD h0 (H _ _ _ _ _ _ _ _ _ _ _ _ _ _ _ _ _ _ hC')) (fun z => absurd z (by omega))
  · rintro k i u hi ⟨dc', m', nn', sh', SL', c1, c3, c4, c5, c6, c7, c8, c9, c10, c11, c12, c13, c14, c15, hC', rfl⟩ hw
    have hr := hR i hi
    have hh := hI i hi
    refine pk_le q i (fun z => absurd z (by omega)) (fun _ => ⟨pk_in i 60 (by omega), nm_r (e' := nI (IT (g + i)).length) (by rw [nI_clamp (by omega)]; exact hr.1) ?_⟩)
    refine la_exp151 (by omega) hh.2.1 hr.2.1 hr.2.2 (fun d1 hd1 => ?_)
    refine la_writeDraft hC' (by omega) hh.1 hh.2.1 hh.2.2.1 hd1 hh.2.2.2 (fun l hl => hS l i (by omega) hi) (fun m2 nn2 sh2 SL2 d3 d4 d5 d6 d7 d8 d9 d10 d11 d12 d13 d14 d15 hC2 _ => nm_r (nI_1 i) (hw _ ⟨_, m2, nn2, sh2, SL2, d1, d3, d4, d5, d6, d7, d8, d9, d10, d11, d12, d13, d14, d15, ?_, rfl⟩))
    refine la_C_it hC2 (fun l hl => ?_) (fun l hl => ?_)
    · by_cases e : l = i
      · rw [e, la_ups]
      · rw [la_upn e]
    · by_cases e : l = i
      · rw [e, la_ups]
      · rw [la_upn e]
/-- the first loop of expire -/
theorem la_exp22 {post : Int32 → St1 → Prop} {g q : Nat} (hC : la_C n m nn sh SL IT TM a3 a4 a5 a6 a7 a8 a9 a10 a12 a13 a14 a15) (hg : g + q = n)
    (H : ∀ m' nn' sh' SL' fr' c1 c3 c4 c5 c6 c7 c8 c9 c10 c11 c12 c13 c14 c15 c16 c17 c18 c19 c20, la_C q m' nn' sh' SL' (fun j => IT (g + j)) (fun j => TM (g + j)) c3 c4 c5 c6 c7 c8 c9 c10 c12 c13 c14 c15 →
      post (nI g) (0, pc, nI q, nI m', nI nn', 0, ft, fr', c1, a2, c3, c4, c5, c6, c7, c8, c9, c10, c11, c12, c13, c14, c15, c16, c17, c18, c19, c20)) :
    ∃ k, wX_expire_22 post (nI g) (nI q) k 0 0 pc (nI n) sp nd sf ft fr a1 a2 a3 a4 a5 a6 a7 a8 a9 a10 a11 a12 a13 a14 a15 a16 a17 a18 a19 a20 := by
  have hn := hC.2.1
  have hm := hC.2.2.1
  refine la_lp6 (fun k i f c16 c17 c18 c19 c20 => wX_expire_22 post (nI g) (nI q) k (nI i) 0 pc (nI n) sp nd sf ft f a1 a2 a3 a4 a5 a6 a7 a8 a9 a10 a11 a12 a13 a14 a15 c16 c17 c18 c19 c20)
    (fun i f c16 c17 c18 c19 c20 => ∀ k, k < i → la_Rs IT TM g k c18 c19 c20) q 0 fr a16 a17 a18 a19 a20 (Nat.zero_le _) (fun k hk => absurd hk (Nat.not_lt_zero k)) ?_ ?_
  · intro k f c16 c17 c18 c19 c20 hI
    refine pk_le q q (fun _ => la_keep (la_empty sh SL (fun j => IT (g + j)) (fun j => TM (g + j)) (fun c5 c11 c12 c13 c14 c15 h0 => ?_))) (fun z => absurd z (by omega))
    refine la_exp131 (by omega) pk_us hI (fun k hk => ?_) (fun j k h1 h2 => hC.1.1.2.2 _ _ (by omega) (by omega)) h0 (fun m' nn' sh' SL' d1 d3 d4 d5 d6 d7 d8 d9 d10 d11 d12 d13 d14 d15 h => H _ _ _ _ _ _ _ _ _ _ _ _ _ _ _ _ _ _ _ _ _ _ _ _ h)
    have gl := hC.1.1.1 (g + k) (by omega)
    have hS := hC.1.2.1 _ gl.2.1
    have hlen := la_Ln_len hC.1.1 (l := g + k) (by omega)
    exact ⟨by omega, by omega, gl.2.2.2, (hC.1.1.2.1 (g + k) (by omega)).2⟩
  · intro k i f c16 c17 c18 c19 c20 hi hI hw
    have gl := hC.1.1.1 (g + i) (by omega)
    have hS := hC.1.2.1 _ gl.2.1
    have hlen := la_Ln_len hC.1.1 (l := g + i) (by omega)
    refine pk_le q i (fun z => absurd z (by omega)) (fun _ => ?_)
    rw [nI_add]
    refine la_readLine hC (by omega) (fun fr' d16 d17 hr => ⟨pk_in (g + i) 60 (by omega), ?_⟩)
    rw [nI_clamp (show g + i < 2 ^ 31 by omega), gl.1, nI_clamp (show sh (g + i) < 2 ^ 31 by omega), nI_clamp (show i < 2 ^ 31 by omega), hS.1, ← hlen, (hC.1.1.2.1 (g + i) (by omega)).1]
    refine ⟨pk_in (sh (g + i)) 60 (by omega), pk_in i 60 (by omega), nm_e ⟨pk_in (g + i) 60 (by omega), pk_in i 60 (by omega), nm_e ?_⟩⟩
    refine la_exp76 (by omega) (by omega) pk_us hr (fun d18 q1 q2 => hw fr' d16 d17 d18 _ _ (fun j hj => ?_))
    unfold la_Rs
    by_cases e : j = i
    · subst e
      exact ⟨pk_us, pk_us, q1⟩
    · have hj2 := hI j (by omega)
      unfold la_Rs at hj2
      have gj := hC.1.1.1 (g + j) (by omega)
      have hSj := hC.1.2.1 _ gj.2.1
      have hlenj := la_Ln_len hC.1.1 (l := g + j) (by omega)
      rw [pk_un e, pk_un e]
      refine ⟨hj2.1, hj2.2.1, fun t ht => ?_⟩
      rw [q2 _ (by omega)]
      exact hj2.2.2 t ht
theorem la_expire {post : Int32 → St1 → Prop} {t : Nat} (hC : la_C n m nn sh SL IT TM a3 a4 a5 a6 a7 a8 a9 a10 a12 a13 a14 a15) (ht : t < 2 ^ 31)
    (H : ∀ m' nn' sh' SL' sf' fr' c1 c3 c4 c5 c6 c7 c8 c9 c10 c11 c12 c13 c14 c15 c16 c17 c18 c19 c20, la_C (n - la_cb TM t n) m' nn' sh' SL' (fun j => IT (la_cb TM t n + j)) (fun j => TM (la_cb TM t n + j)) c3 c4 c5 c6 c7 c8 c9 c10 c12 c13 c14 c15 →
      post (nI (la_cb TM t n)) (0, pc, nI (n - la_cb TM t n), nI m', nI nn', sf', ft, fr', c1, a2, c3, c4, c5, c6, c7, c8, c9, c10, c11, c12, c13, c14, c15, c16, c17, c18, c19, c20)) :
    wpX_expire post (0, pc, nI n, nI m, nI nn, sf, ft, fr, a1, a2, a3, a4, a5, a6, a7, a8, a9, a10, a11, a12, a13, a14, a15, a16, a17, a18, a19, a20) (nI t) := by
  have hn := hC.2.1
  have hcb := la_cb_le TM t n
  unfold wpX_expire
  refine la_below hC.1.1 hn ht ?_
  generalize la_cb TM t n = g at H hcb ⊢
  refine pk_eq g 0 (fun z => ?_) (fun z => nm_r (e' := nI (n - g)) (pk_sub hcb) (la_exp22 hC (by omega) (fun m' nn' sh' SL' fr' c1 c3 c4 c5 c6 c7 c8 c9 c10 c11 c12 c13 c14 c15 c16 c17 c18 c19 c20 h => H m' nn' sh' SL' 0 fr' c1 c3 c4 c5 c6 c7 c8 c9 c10 c11 c12 c13 c14 c15 c16 c17 c18 c19 c20 h)))
  subst z
  refine H m nn sh SL sf fr a1 a3 a4 a5 a6 a7 a8 a9 a10 a11 a12 a13 a14 a15 a16 a17 a18 a19 a20 ?_
  exact la_C_it hC (fun l _ => by rw [Nat.zero_add]) (fun l _ => by rw [Nat.zero_add])
end
end
section
/-! the law's small functions -/
theorem la_cell {post : Int32 → Prop} {L k : Nat} {xs : Nat → Int32} (hL : L ≤ 260) (hk : k < 2 ^ 31) (H : ∀ x, post x) : wpL_cell post L xs () (nI k) :=
  pk_le L k (fun _ => H _) (fun z => ⟨pk_in k L z rfl (by omega), H _⟩)
theorem la_itemOf {post : Int32 → Prop} {x : Int32} (H : ∀ k, la_item k → post (nI k)) : wpL_itemOf post () x := by
  obtain ⟨j, hj, ej⟩ := pk_andE x 4 (m := 15) (by decide)
  obtain ⟨i, hi, ei⟩ := pk_andE (x >>> ((4 : Int32) &&& 31)) 3 (m := 7) (by decide)
  unfold wpL_itemOf
  rw [ei, ej]
  have hj' : j < 16 := hj
  have hi' : i < 8 := hi
  refine nm_e (pk_le 9 j (fun z => br_c (fun _ => ?_) (fun _ => ?_)) (fun z => ⟨by decide, ?_⟩))
  · rw [show (1000 : Int32) = nI 1000 from rfl, show (130 : Int32) = nI 130 from rfl, pk_mul, nI_add]
    exact H _ (Or.inr (by omega))
  · rw [show (1000 : Int32) = nI 1000 from rfl, show (1 : Int32) = nI 1 from rfl, pk_mul, nI_add]
    exact H _ (Or.inr (by omega))
  · rw [show (4 : Int32) = nI 4 from rfl, pk_rem (by omega) (by decide) (by decide)]
    exact H _ (Or.inl (by omega))
def la_isP (k : Nat) : Prop := la_item k ∨ (2000 ≤ k ∧ k ≤ 2002) ∨ (3000 ≤ k ∧ k < 4000)
theorem la_partOf {post : Int32 → Prop} {x : Int32} (H : ∀ k, la_isP k → post (nI k)) : wpL_partOf post () x := by
  obtain ⟨i, hi, ei⟩ := pk_andE x 3 (m := 7) (by decide)
  have hi' : i < 8 := hi
  unfold wpL_partOf
  rw [ei]
  refine nm_e (br_c (fun _ => br_c (fun _ => br_c (fun _ => ?_) (fun _ => br_c (fun _ => ?_) (fun _ => ?_))) (fun _ => ?_)) (fun _ => la_itemOf (fun k hk => H k (Or.inl hk))))
  · exact H 2001 (Or.inr (Or.inl (by omega)))
  · rw [show (3000 : Int32) = nI 3000 from rfl, nI_add]
    exact H _ (Or.inr (Or.inr (by omega)))
  · exact H 2002 (Or.inr (Or.inl (by omega)))
  · exact H 2000 (Or.inr (Or.inl (by omega)))
theorem la_isPart {post : Int32 → Prop} {k : Nat} (hk : la_isP k) (H : post 1) : wpX_isPart post () (nI k) := by
  unfold wpX_isPart
  rcases hk with h | h
  · exact la_isItem h (br_f (by decide) H)
  · have h2 : 2000 ≤ k := by omega
    have hb : k < 4000 := by omega
    have K : wX_isPart_21 post (nI k) ∨ k ≤ 2002 := by
      rcases h with h | h
      · exact Or.inr h.2
      · refine Or.inl ?_
        unfold wX_isPart_21
        exact br_f (nI_nlt (b := 3000) h.1 (by omega)) (br_f (nI_ge (b := 4000) h.2 (by decide)) H)
    refine br_f (nI_pos (by omega)) (br_f (nI_nlt (b := 24) (by omega) (by omega)) ?_)
    unfold wX_isItem_10
    refine br_f (nI_nlt (b := 1000) (by omega) (by omega)) (br_t (nI_le (a := 2000) h2 (by omega)) (br_t rfl (br_t rfl (br_f (nI_nlt (b := 2000) h2 (by omega)) ?_))))
    refine pk_le k 2002 (fun _ => H) (fun z => ?_)
    rcases K with q | q
    · exact q
    · omega
theorem la_app1 {D : List Nat} {x i : Nat} (h : i < D.length) : (D ++ [x]).getD i 0 = D.getD i 0 := by
  rw [List.getD_eq_getElem?_getD, List.getD_eq_getElem?_getD, List.getElem?_append_left h]
theorem la_app2 {D : List Nat} {x : Nat} : (D ++ [x]).getD D.length 0 = x := by
  rw [List.getD_eq_getElem?_getD, List.getElem?_append_right (Nat.le_refl _), Nat.sub_self]
  rfl
section
variable {dc pc ln sp nd sf fr : Int32} {ft : Int64} {a1 a2 a3 a4 a5 a6 a7 a8 a10 a12 a13 a14 a15 a16 a17 a18 a19 a20 : Nat → Int32} {a9 a11 : Nat → Int64}
variable {n m nn : Nat} {sh : Nat → Nat} {SL IT : Nat → List Nat} {TM : Nat → Nat} {p : Nat}
theorem la_part {post : Int32 → St1 → Prop} {k : Nat} (hk : la_isP k) (hp : p < 8) (H : post (nI (p + 1)) (dc, nI (p + 1), ln, sp, nd, 0, ft, fr, a1, upd a2 p (nI k), a3, a4, a5, a6, a7, a8, a9, a10, a11, a12, a13, a14, a15, a16, a17, a18, a19, a20)) : wpX_part post (dc, nI p, ln, sp, nd, sf, ft, fr, a1, a2, a3, a4, a5, a6, a7, a8, a9, a10, a11, a12, a13, a14, a15, a16, a17, a18, a19, a20) (nI k) := by
  unfold wpX_part
  refine la_isPart hk (br_f (by decide) (br_t (nI_lt (b := 8) hp (by decide)) ⟨pk_in p 8 hp, ?_⟩))
  rw [nI_clamp (show p < 2 ^ 31 by omega)]
  exact nm_e (nm_r (nI_1 p) H)
end
/-- the state between the law's calls: the draft is empty -/
def la_St (n : Nat) (IT : Nat → List Nat) (TM : Nat → Nat) (u : St1) : Prop :=
  ∃ (p m nn : Nat) (sh : Nat → Nat) (SL : Nat → List Nat) (sf : Int32) (ft : Int64) (fr : Int32) (a1 a2 a3 a4 a5 a6 a7 a8 : Nat → Int32) (a9 : Nat → Int64) (a10 : Nat → Int32) (a11 : Nat → Int64) (a12 a13 a14 a15 a16 a17 a18 a19 a20 : Nat → Int32),
    p ≤ 8 ∧ la_C n m nn sh SL IT TM a3 a4 a5 a6 a7 a8 a9 a10 a12 a13 a14 a15 ∧ u = (0, nI p, nI n, nI m, nI nn, sf, ft, fr, a1, a2, a3, a4, a5, a6, a7, a8, a9, a10, a11, a12, a13, a14, a15, a16, a17, a18, a19, a20)
section
variable {dc pc ln sp nd sf fr : Int32} {ft : Int64} {a1 a2 a3 a4 a5 a6 a7 a8 a10 a12 a13 a14 a15 a16 a17 a18 a19 a20 : Nat → Int32} {a9 a11 : Nat → Int64}
variable {n m nn : Nat} {sh : Nat → Nat} {SL IT : Nat → List Nat} {TM : Nat → Nat} {p : Nat}
theorem la_St_i (hp : p ≤ 8) (hC : la_C n m nn sh SL IT TM a3 a4 a5 a6 a7 a8 a9 a10 a12 a13 a14 a15) : la_St n IT TM (0, nI p, nI n, nI m, nI nn, sf, ft, fr, a1, a2, a3, a4, a5, a6, a7, a8, a9, a10, a11, a12, a13, a14, a15, a16, a17, a18, a19, a20) :=
  ⟨p, m, nn, sh, SL, sf, ft, fr, a1, a2, a3, a4, a5, a6, a7, a8, a9, a10, a11, a12, a13, a14, a15, a16, a17, a18, a19, a20, hp, hC, rfl⟩
theorem la_fill56 {post : St1 → Prop} {L : Nat} {xs : Nat → Int32} {J : Int32 → Int32 → Int32 → Int32 → Int32 → Int32 → Int32 → Int32 → Int64 → Int32 → (Nat → Int32) → (Nat → Int32) → (Nat → Int32) → (Nat → Int32) → (Nat → Int32) → (Nat → Int32) → (Nat → Int32) → (Nat → Int32) → (Nat → Int64) → (Nat → Int32) → (Nat → Int64) → (Nat → Int32) → (Nat → Int32) → (Nat → Int32) → (Nat → Int32) → (Nat → Int32) → (Nat → Int32) → (Nat → Int32) → (Nat → Int32) → (Nat → Int32) → Prop} {x2 x3 x6 : Int32} {i t z : Nat} (hC : la_C n m nn sh SL IT TM a3 a4 a5 a6 a7 a8 a9 a10 a12 a13 a14 a15) (hp : p ≤ 8) (hn : n < 60) (hz1 : 1 ≤ z) (hz : z ≤ 4) (ht : t ≤ 900) (hT : ∀ l, l < n → TM l ≤ t)
    (H : ∀ t' IT' TM' u, t' ≤ t + 3 → (∀ l, l < n + 1 → TM' l ≤ t') → la_St (n + 1) IT' TM' u → J (nI t') (nI (i + 1)) u.1 u.2.1 u.2.2.1 u.2.2.2.1 u.2.2.2.2.1 u.2.2.2.2.2.1 u.2.2.2.2.2.2.1 u.2.2.2.2.2.2.2.1 u.2.2.2.2.2.2.2.2.1 u.2.2.2.2.2.2.2.2.2.1 u.2.2.2.2.2.2.2.2.2.2.1 u.2.2.2.2.2.2.2.2.2.2.2.1 u.2.2.2.2.2.2.2.2.2.2.2.2.1 u.2.2.2.2.2.2.2.2.2.2.2.2.2.1 u.2.2.2.2.2.2.2.2.2.2.2.2.2.2.1 u.2.2.2.2.2.2.2.2.2.2.2.2.2.2.2.1 u.2.2.2.2.2.2.2.2.2.2.2.2.2.2.2.2.1 u.2.2.2.2.2.2.2.2.2.2.2.2.2.2.2.2.2.1 u.2.2.2.2.2.2.2.2.2.2.2.2.2.2.2.2.2.2.1 u.2.2.2.2.2.2.2.2.2.2.2.2.2.2.2.2.2.2.2.1 u.2.2.2.2.2.2.2.2.2.2.2.2.2.2.2.2.2.2.2.2.1 u.2.2.2.2.2.2.2.2.2.2.2.2.2.2.2.2.2.2.2.2.2.1 u.2.2.2.2.2.2.2.2.2.2.2.2.2.2.2.2.2.2.2.2.2.2.1 u.2.2.2.2.2.2.2.2.2.2.2.2.2.2.2.2.2.2.2.2.2.2.2.1 u.2.2.2.2.2.2.2.2.2.2.2.2.2.2.2.2.2.2.2.2.2.2.2.2.1 u.2.2.2.2.2.2.2.2.2.2.2.2.2.2.2.2.2.2.2.2.2.2.2.2.2.1 u.2.2.2.2.2.2.2.2.2.2.2.2.2.2.2.2.2.2.2.2.2.2.2.2.2.2.1 u.2.2.2.2.2.2.2.2.2.2.2.2.2.2.2.2.2.2.2.2.2.2.2.2.2.2.2) :
    ∃ k, wL_fill_56 post L xs J x2 x3 (nI t) (nI i) x6 (nI z) k 0 0 (nI p) (nI n) (nI m) (nI nn) sf ft fr a1 a2 a3 a4 a5 a6 a7 a8 a9 a10 a11 a12 a13 a14 a15 a16 a17 a18 a19 a20 := by
  refine la_lp2 (fun k j (D : List Nat) c1 => wL_fill_56 post L xs J x2 x3 (nI t) (nI i) x6 (nI z) k (nI j) (nI j) (nI p) (nI n) (nI m) (nI nn) sf ft fr c1 a2 a3 a4 a5 a6 a7 a8 a9 a10 a11 a12 a13 a14 a15 a16 a17 a18 a19 a20)
    (fun j D c1 => D.length = j ∧ (∀ x, x ∈ D → la_item x) ∧ ∀ k, k < j → c1 k = nI (D.getD k 0)) z 0 [] a1 (Nat.zero_le _) ⟨rfl, fun x hx => absurd hx (by simp), fun k hk => absurd hk (Nat.not_lt_zero k)⟩ ?_ ?_
  · intro k D c1 hI
    obtain ⟨i1, i2, i3⟩ := hI
    obtain ⟨y, hy, ey⟩ := pk_andE (x6 >>> ((25 : Int32) &&& 31)) 2 (m := 3) (by decide)
    have hy' : y < 4 := hy
    subst i1
    refine pk_le D.length D.length (fun _ => nm_r (e' := nI (t + y)) (by rw [ey, nI_add]) ?_) (fun z => absurd z (by omega))
    refine la_write hC hn hz1 (by omega) i2 i3 (by omega) (fun l hl => by have := hT l hl; omega) (fun m' nn' sh' SL' c3 c4 c5 c6 c7 c8 c9 c10 c11 c12 c13 c14 c15 hC' _ => nm_r (nI_1 i) ?_)
    refine H (t + y) _ _ _ (by omega) (fun l hl => ?_) (la_St_i hp hC')
    by_cases e : l = n
    · rw [e, la_ups]
      exact Nat.le_refl _
    · rw [la_upn e]
      have := hT l (by omega)
      omega
  · intro k j D c1 hj hI hw
    obtain ⟨i1, i2, i3⟩ := hI
    subst i1
    refine pk_le z D.length (fun q => absurd q (by omega)) (fun _ => la_itemOf (fun x hx => la_addItem hx (by omega) (nm_r (nI_1 _) ?_)))
    refine hw (D ++ [x]) _ ⟨by simp, fun y hy => ?_, fun q hq => ?_⟩
    · rcases List.mem_append.mp hy with h | h
      · exact i2 y h
      · rw [List.mem_singleton.mp h]
        exact hx
    · by_cases e : q = D.length
      · rw [e, pk_us, la_app2]
      · rw [pk_un e, la_app1 (by omega)]
        exact i3 q (by omega)
theorem la_fill {post : St1 → Prop} {L b t0 : Nat} {xs : Nat → Int32} (hC : la_C n m nn sh SL IT TM a3 a4 a5 a6 a7 a8 a9 a10 a12 a13 a14 a15) (hp : p ≤ 8) (hL : L ≤ 260) (hb : b ≤ 1000) (hn : n ≤ 50) (ht : t0 ≤ 800) (hT : ∀ l, l < n → TM l ≤ t0)
    (H : ∀ n' IT' TM' u, n' ≤ n + 8 → (∀ l, l < n' → TM' l ≤ t0 + 24) → la_St n' IT' TM' u → post u) : wpL_fill post L xs (0, nI p, nI n, nI m, nI nn, sf, ft, fr, a1, a2, a3, a4, a5, a6, a7, a8, a9, a10, a11, a12, a13, a14, a15, a16, a17, a18, a19, a20) (nI b) (nI 8) := by
  have K : ∀ t1, t1 ≤ t0 → (∀ l, l < n → TM l ≤ t1) → ∃ k, wL_fill_26 post L xs (nI b) (nI 8) k (nI t1) 0 0 (nI p) (nI n) (nI m) (nI nn) sf ft fr a1 a2 a3 a4 a5 a6 a7 a8 a9 a10 a11 a12 a13 a14 a15 a16 a17 a18 a19 a20 := by
    intro t1 h1 h2
    refine la_lp2 (fun k i t (u : St1) => wL_fill_26 post L xs (nI b) (nI 8) k (nI t) (nI i) u.1 u.2.1 u.2.2.1 u.2.2.2.1 u.2.2.2.2.1 u.2.2.2.2.2.1 u.2.2.2.2.2.2.1 u.2.2.2.2.2.2.2.1 u.2.2.2.2.2.2.2.2.1 u.2.2.2.2.2.2.2.2.2.1 u.2.2.2.2.2.2.2.2.2.2.1 u.2.2.2.2.2.2.2.2.2.2.2.1 u.2.2.2.2.2.2.2.2.2.2.2.2.1 u.2.2.2.2.2.2.2.2.2.2.2.2.2.1 u.2.2.2.2.2.2.2.2.2.2.2.2.2.2.1 u.2.2.2.2.2.2.2.2.2.2.2.2.2.2.2.1 u.2.2.2.2.2.2.2.2.2.2.2.2.2.2.2.2.1 u.2.2.2.2.2.2.2.2.2.2.2.2.2.2.2.2.2.1 u.2.2.2.2.2.2.2.2.2.2.2.2.2.2.2.2.2.2.1 u.2.2.2.2.2.2.2.2.2.2.2.2.2.2.2.2.2.2.2.1 u.2.2.2.2.2.2.2.2.2.2.2.2.2.2.2.2.2.2.2.2.1 u.2.2.2.2.2.2.2.2.2.2.2.2.2.2.2.2.2.2.2.2.2.1 u.2.2.2.2.2.2.2.2.2.2.2.2.2.2.2.2.2.2.2.2.2.2.1 u.2.2.2.2.2.2.2.2.2.2.2.2.2.2.2.2.2.2.2.2.2.2.2.1 u.2.2.2.2.2.2.2.2.2.2.2.2.2.2.2.2.2.2.2.2.2.2.2.2.1 u.2.2.2.2.2.2.2.2.2.2.2.2.2.2.2.2.2.2.2.2.2.2.2.2.2.1 u.2.2.2.2.2.2.2.2.2.2.2.2.2.2.2.2.2.2.2.2.2.2.2.2.2.2.1 u.2.2.2.2.2.2.2.2.2.2.2.2.2.2.2.2.2.2.2.2.2.2.2.2.2.2.2)
      (fun i t u => t ≤ t0 + 3 * i ∧ ∃ IT' TM', (∀ l, l < n + i → TM' l ≤ t) ∧ la_St (n + i) IT' TM' u) 8 0 t1 (0, nI p, nI n, nI m, nI nn, sf, ft, fr, a1, a2, a3, a4, a5, a6, a7, a8, a9, a10, a11, a12, a13, a14, a15, a16, a17, a18, a19, a20) (by omega) ⟨by omega, IT, TM, h2, la_St_i hp hC⟩ ?_ ?_
    · intro k t u hI
      obtain ⟨i1, IT', TM', i2, i3⟩ := hI
      exact pk_le 8 8 (fun _ => H (n + 8) IT' TM' u (Nat.le_refl _) (fun l hl => by have := i2 l hl; omega) i3) (fun z => absurd z (by omega))
    · intro k i t u hi hI hw
      obtain ⟨i1, IT', TM', i2, i3⟩ := hI
      obtain ⟨p, m, nn, sh, SL, sf, ft, fr, a1, a2, a3, a4, a5, a6, a7, a8, a9, a10, a11, a12, a13, a14, a15, a16, a17, a18, a19, a20, hp', hC', rfl⟩ := i3
      refine pk_le 8 i (fun z => absurd z (by omega)) (fun _ => ?_)
      rw [nI_add]
      refine la_cell hL (by omega) (fun x => ?_)
      obtain ⟨y, hy, ey⟩ := pk_andE (x >>> ((28 : Int32) &&& 31)) 2 (m := 3) (by decide)
      have hy' : y < 4 := hy
      refine nm_r (e' := nI (1 + y)) (by rw [ey, show (1 : Int32) = nI 1 from rfl, nI_add]) ?_
      exact la_fill56 hC' hp' (by omega) (by omega) (by omega) (by omega) i2 (fun t' IT2 TM2 u q1 q2 q3 => hw t' u ⟨by omega, IT2, TM2, q2, q3⟩)
  unfold wpL_fill
  refine pk_eq n 0 (fun z => K 0 (by omega) (fun l hl => absurd hl (by omega))) (fun z => ?_) rfl rfl (by omega) (by omega)
  unfold wpX_lines
  dsimp only
  have e : nI n - 1 = nI (n - 1) := pk_sub (b := 1) (by omega)
  rw [e]
  exact la_time hC.1.1 hC.2.1 (by omega) (K _ (hT _ (by omega)) (fun l hl => hC.1.1.2.2 l (n - 1) (by omega) (by omega)))
end
end
section
/-- the state at the start of round i -/
def la_R (i : Nat) (u : St1) : Prop := ∃ n IT TM, n ≤ 9 * i ∧ (∀ l, l < n → TM l ≤ 27 * i) ∧ la_St n IT TM u
section
variable {dc pc ln sp nd sf fr : Int32} {ft : Int64} {a1 a2 a3 a4 a5 a6 a7 a8 a10 a12 a13 a14 a15 a16 a17 a18 a19 a20 : Nat → Int32} {a9 a11 : Nat → Int64}
variable {n m nn : Nat} {sh : Nat → Nat} {SL IT : Nat → List Nat} {TM : Nat → Nat} {p i : Nat}
variable {post : Int32 → Prop} {L : Nat} {xs : Nat → Int32} {J : Int32 → Int32 → Int32 → Int32 → Int32 → Int32 → Int32 → Int64 → Int32 → (Nat → Int32) → (Nat → Int32) → (Nat → Int32) → (Nat → Int32) → (Nat → Int32) → (Nat → Int32) → (Nat → Int32) → (Nat → Int32) → (Nat → Int64) → (Nat → Int32) → (Nat → Int64) → (Nat → Int32) → (Nat → Int32) → (Nat → Int32) → (Nat → Int32) → (Nat → Int32) → (Nat → Int32) → (Nat → Int32) → (Nat → Int32) → (Nat → Int32) → Prop} {x3 : Int32} {kc ks : Nat}
theorem la_cb0 (TM : Nat → Nat) (n : Nat) : la_cb TM 0 n = 0 := la_cb_eq (Nat.zero_le _) (fun l hl => absurd hl (Nat.not_lt_zero l)) (fun l _ _ => Nat.zero_le _)
theorem la_fitting' {pst : Int32 → St1 → Prop} {a b : Nat} (hC : la_C n m nn sh SL IT TM a3 a4 a5 a6 a7 a8 a9 a10 a12 a13 a14 a15) (hb : b < 1000) (ha : a ≤ 1000) (H : pst (nI (la_in ft (la_cb TM a n) (la_cb TM (b + 1) n))) (dc, pc, nI n, sp, nd, 1, ft, fr, a1, a2, a3, a4, a5, a6, a7, a8, a9, a10, a11, a12, a13, a14, a15, a16, a17, a18, a19, a20)) : wpX_fitting pst (dc, pc, nI n, sp, nd, 1, ft, fr, a1, a2, a3, a4, a5, a6, a7, a8, a9, a10, a11, a12, a13, a14, a15, a16, a17, a18, a19, a20) (nI a) (nI b) :=
  la_fitting hC (by omega) ha (by rw [if_pos hb]; exact H)
theorem la_fitting0' {pst : Int32 → St1 → Prop} {a b : Nat} (hC : la_C n m nn sh SL IT TM a3 a4 a5 a6 a7 a8 a9 a10 a12 a13 a14 a15) (hp : p ≤ 8) (hb : b < 1000) (ha : a ≤ 1000)
    (H : ∀ ft' fr' c17, pst (nI (la_in ft' (la_cb TM a n) (la_cb TM (b + 1) n))) (dc, nI p, nI n, nI m, nd, 1, ft', fr', a1, a2, a3, a4, a5, a6, a7, a8, a9, a10, a11, a12, a13, a14, a15, a16, c17, a18, a19, a20)) : wpX_fitting pst (dc, nI p, nI n, nI m, nd, 0, ft, fr, a1, a2, a3, a4, a5, a6, a7, a8, a9, a10, a11, a12, a13, a14, a15, a16, a17, a18, a19, a20) (nI a) (nI b) :=
  la_fitting0 hC hp (by omega) ha (fun ft' fr' c17 _ => by rw [if_pos hb]; exact H ft' fr' c17)
theorem la_between {pst : Int32 → Prop} {t : Nat} (hC : la_C n m nn sh SL IT TM a3 a4 a5 a6 a7 a8 a9 a10 a12 a13 a14 a15) (ht : t < 100) (H : pst (nI (la_cb TM t n))) : wpX_between pst (dc, pc, nI n, sp, nd, sf, ft, fr, a1, a2, a3, a4, a5, a6, a7, a8, a9, a10, a11, a12, a13, a14, a15, a16, a17, a18, a19, a20) 0 (nI t - 1) := by
  have hn := hC.2.1
  have hc := la_cb_le TM t n
  unfold wpX_between
  refine la_below (t := 0) hC.1.1 hn (by decide) ?_
  rw [la_cb0]
  have h1 : nI t - 1 < 1000 := by
    cases t with
    | zero => decide
    | succ t => rw [nI_pred]; exact nI_lt (b := 1000) (by omega) (by decide)
  have h2 : nI t - 1 + 1 = nI t := by grind
  unfold wpX_countUpTo
  refine br_t h1 ?_
  rw [h2]
  refine la_below hC.1.1 hn (by omega) (pk_le (la_cb TM t n) 0 (fun z => ?_) (fun z => ?_))
  · have e : la_cb TM t n = 0 := by omega
    rw [e] at H
    exact H
  · have e : nI (la_cb TM t n) - nI 0 = nI (la_cb TM t n) := pk_sub (b := 0) (Nat.zero_le _)
    rw [e]
    exact H
theorem la_595 (hC : la_C n m nn sh SL IT TM a3 a4 a5 a6 a7 a8 a9 a10 a12 a13 a14 a15) (hn : n ≤ 9 * (i + 1)) (hT : ∀ l, l < n → TM l ≤ 27 * (i + 1)) (hp : p ≤ 8) (hJ : ∀ u, la_R (i + 1) u → J (nI (i + 1)) u.1 u.2.1 u.2.2.1 u.2.2.2.1 u.2.2.2.2.1 u.2.2.2.2.2.1 u.2.2.2.2.2.2.1 u.2.2.2.2.2.2.2.1 u.2.2.2.2.2.2.2.2.1 u.2.2.2.2.2.2.2.2.2.1 u.2.2.2.2.2.2.2.2.2.2.1 u.2.2.2.2.2.2.2.2.2.2.2.1 u.2.2.2.2.2.2.2.2.2.2.2.2.1 u.2.2.2.2.2.2.2.2.2.2.2.2.2.1 u.2.2.2.2.2.2.2.2.2.2.2.2.2.2.1 u.2.2.2.2.2.2.2.2.2.2.2.2.2.2.2.1 u.2.2.2.2.2.2.2.2.2.2.2.2.2.2.2.2.1 u.2.2.2.2.2.2.2.2.2.2.2.2.2.2.2.2.2.1 u.2.2.2.2.2.2.2.2.2.2.2.2.2.2.2.2.2.2.1 u.2.2.2.2.2.2.2.2.2.2.2.2.2.2.2.2.2.2.2.1 u.2.2.2.2.2.2.2.2.2.2.2.2.2.2.2.2.2.2.2.2.1 u.2.2.2.2.2.2.2.2.2.2.2.2.2.2.2.2.2.2.2.2.2.1 u.2.2.2.2.2.2.2.2.2.2.2.2.2.2.2.2.2.2.2.2.2.2.1 u.2.2.2.2.2.2.2.2.2.2.2.2.2.2.2.2.2.2.2.2.2.2.2.1 u.2.2.2.2.2.2.2.2.2.2.2.2.2.2.2.2.2.2.2.2.2.2.2.2.1 u.2.2.2.2.2.2.2.2.2.2.2.2.2.2.2.2.2.2.2.2.2.2.2.2.2.1 u.2.2.2.2.2.2.2.2.2.2.2.2.2.2.2.2.2.2.2.2.2.2.2.2.2.2.1 u.2.2.2.2.2.2.2.2.2.2.2.2.2.2.2.2.2.2.2.2.2.2.2.2.2.2.2) : wL_law_595 post L xs J (nI i) kc ks 0 (nI p) (nI n) (nI m) (nI nn) sf ft fr a1 a2 a3 a4 a5 a6 a7 a8 a9 a10 a11 a12 a13 a14 a15 a16 a17 a18 a19 a20 := by
  unfold wL_law_595
  exact la_groups hC (br_f (by decide) (nm_r (nI_1 i) (hJ _ ⟨n, IT, TM, hn, hT, la_St_i hp hC⟩)))
theorem la_536 {t : Nat} {it wh : Int32} (hC : la_C n m nn sh SL IT TM a3 a4 a5 a6 a7 a8 a9 a10 a12 a13 a14 a15) (hn : n ≤ 9 * (i + 1)) (hT : ∀ l, l < n → TM l ≤ 27 * (i + 1)) (hp : p ≤ 8) (ht : t < 100) (hJ : ∀ u, la_R (i + 1) u → J (nI (i + 1)) u.1 u.2.1 u.2.2.1 u.2.2.2.1 u.2.2.2.2.1 u.2.2.2.2.2.1 u.2.2.2.2.2.2.1 u.2.2.2.2.2.2.2.1 u.2.2.2.2.2.2.2.2.1 u.2.2.2.2.2.2.2.2.2.1 u.2.2.2.2.2.2.2.2.2.2.1 u.2.2.2.2.2.2.2.2.2.2.2.1 u.2.2.2.2.2.2.2.2.2.2.2.2.1 u.2.2.2.2.2.2.2.2.2.2.2.2.2.1 u.2.2.2.2.2.2.2.2.2.2.2.2.2.2.1 u.2.2.2.2.2.2.2.2.2.2.2.2.2.2.2.1 u.2.2.2.2.2.2.2.2.2.2.2.2.2.2.2.2.1 u.2.2.2.2.2.2.2.2.2.2.2.2.2.2.2.2.2.1 u.2.2.2.2.2.2.2.2.2.2.2.2.2.2.2.2.2.2.1 u.2.2.2.2.2.2.2.2.2.2.2.2.2.2.2.2.2.2.2.1 u.2.2.2.2.2.2.2.2.2.2.2.2.2.2.2.2.2.2.2.2.1 u.2.2.2.2.2.2.2.2.2.2.2.2.2.2.2.2.2.2.2.2.2.1 u.2.2.2.2.2.2.2.2.2.2.2.2.2.2.2.2.2.2.2.2.2.2.1 u.2.2.2.2.2.2.2.2.2.2.2.2.2.2.2.2.2.2.2.2.2.2.2.1 u.2.2.2.2.2.2.2.2.2.2.2.2.2.2.2.2.2.2.2.2.2.2.2.2.1 u.2.2.2.2.2.2.2.2.2.2.2.2.2.2.2.2.2.2.2.2.2.2.2.2.2.1 u.2.2.2.2.2.2.2.2.2.2.2.2.2.2.2.2.2.2.2.2.2.2.2.2.2.2.1 u.2.2.2.2.2.2.2.2.2.2.2.2.2.2.2.2.2.2.2.2.2.2.2.2.2.2.2)
    (h : la_cb TM t n < n → it = nI ((IT (n - 1)).getD 0 0) ∧ wh = nI (TM (la_cb TM t n))) :
    wL_law_536 post L xs J (nI i) (nI t) (nI (la_cb TM t n)) (nI n) it wh kc ks 0 (nI p) (nI n) (nI m) (nI nn) sf ft fr a1 a2 a3 a4 a5 a6 a7 a8 a9 a10 a11 a12 a13 a14 a15 a16 a17 a18 a19 a20 := by
  have h60 := hC.2.1
  have hc := la_cb_le TM t n
  unfold wL_law_536
  refine la_expire hC (by omega) (fun m' nn' sh' SL' sf' fr' c1 c3 c4 c5 c6 c7 c8 c9 c10 c11 c12 c13 c14 c15 c16 c17 c18 c19 c20 hC' => ?_)
  generalize la_cb TM t n = g at h hc hC' ⊢
  have e1 : nI n - nI g = nI (n - g) := pk_sub hc
  have hT' : ∀ l, l < n - g → TM (g + l) ≤ 27 * (i + 1) := fun l hl => hT _ (by omega)
  refine br_t rfl ?_
  unfold wpX_lines
  rw [e1]
  refine br_t rfl (pk_le n g (fun z => la_595 hC' (by omega) hT' hp hJ) (fun z => ?_))
  have hh := h z
  have e2 : nI (n - g) - 1 = nI (n - g - 1) := pk_sub (b := 1) (by omega)
  have gl := hC'.1.1.1 (n - g - 1) (by omega)
  have hS := hC'.1.2.1 _ gl.2.1
  have hlen := la_Ln_len hC'.1.1 (l := n - g - 1) (by omega)
  rw [e2]
  refine la_at (i := 0) hC' (by omega) (by omega) (fun fr2 d16 d17 => br_t ?_ (la_time (l := 0) hC'.1.1 hC'.2.1 (by omega) (br_t ?_ (la_595 hC' (by omega) hT' hp hJ))))
  · rw [hh.1]
    show nI ((IT (g + (n - g - 1))).getD 0 0) = _
    rw [show g + (n - g - 1) = n - 1 by omega]
  · rw [hh.2]
    rfl
theorem la_517 {t : Nat} {it : Int32} (hC : la_C n m nn sh SL IT TM a3 a4 a5 a6 a7 a8 a9 a10 a12 a13 a14 a15) (hn : n ≤ 9 * (i + 1)) (hT : ∀ l, l < n → TM l ≤ 27 * (i + 1)) (hp : p ≤ 8) (ht : t < 100) (hJ : ∀ u, la_R (i + 1) u → J (nI (i + 1)) u.1 u.2.1 u.2.2.1 u.2.2.2.1 u.2.2.2.2.1 u.2.2.2.2.2.1 u.2.2.2.2.2.2.1 u.2.2.2.2.2.2.2.1 u.2.2.2.2.2.2.2.2.1 u.2.2.2.2.2.2.2.2.2.1 u.2.2.2.2.2.2.2.2.2.2.1 u.2.2.2.2.2.2.2.2.2.2.2.1 u.2.2.2.2.2.2.2.2.2.2.2.2.1 u.2.2.2.2.2.2.2.2.2.2.2.2.2.1 u.2.2.2.2.2.2.2.2.2.2.2.2.2.2.1 u.2.2.2.2.2.2.2.2.2.2.2.2.2.2.2.1 u.2.2.2.2.2.2.2.2.2.2.2.2.2.2.2.2.1 u.2.2.2.2.2.2.2.2.2.2.2.2.2.2.2.2.2.1 u.2.2.2.2.2.2.2.2.2.2.2.2.2.2.2.2.2.2.1 u.2.2.2.2.2.2.2.2.2.2.2.2.2.2.2.2.2.2.2.1 u.2.2.2.2.2.2.2.2.2.2.2.2.2.2.2.2.2.2.2.2.1 u.2.2.2.2.2.2.2.2.2.2.2.2.2.2.2.2.2.2.2.2.2.1 u.2.2.2.2.2.2.2.2.2.2.2.2.2.2.2.2.2.2.2.2.2.2.1 u.2.2.2.2.2.2.2.2.2.2.2.2.2.2.2.2.2.2.2.2.2.2.2.1 u.2.2.2.2.2.2.2.2.2.2.2.2.2.2.2.2.2.2.2.2.2.2.2.2.1 u.2.2.2.2.2.2.2.2.2.2.2.2.2.2.2.2.2.2.2.2.2.2.2.2.2.1 u.2.2.2.2.2.2.2.2.2.2.2.2.2.2.2.2.2.2.2.2.2.2.2.2.2.2.1 u.2.2.2.2.2.2.2.2.2.2.2.2.2.2.2.2.2.2.2.2.2.2.2.2.2.2.2)
    (h : la_cb TM t n < n → it = nI ((IT (n - 1)).getD 0 0)) :
    wL_law_517 post L xs J (nI i) (nI t) (nI (la_cb TM t n)) (nI n) it kc ks 0 (nI p) (nI n) (nI m) (nI nn) sf ft fr a1 a2 a3 a4 a5 a6 a7 a8 a9 a10 a11 a12 a13 a14 a15 a16 a17 a18 a19 a20 := by
  have h60 := hC.2.1
  have hc := la_cb_le TM t n
  unfold wL_law_517
  refine pk_le n (la_cb TM t n) (fun z => la_536 hC hn hT hp ht hJ (fun q => absurd q (by omega))) (fun z => ?_)
  exact la_time hC.1.1 h60 z (la_536 hC hn hT hp ht hJ (fun q => ⟨h q, rfl⟩))
/-- the last part of a round -/
theorem la_end {J343 : Prop} (hC : la_C n m nn sh SL IT TM a3 a4 a5 a6 a7 a8 a9 a10 a12 a13 a14 a15) (hn : n ≤ 9 * (i + 1)) (hT : ∀ l, l < n → TM l ≤ 27 * (i + 1)) (hp : p ≤ 8) (hJ : ∀ u, la_R (i + 1) u → J (nI (i + 1)) u.1 u.2.1 u.2.2.1 u.2.2.2.1 u.2.2.2.2.1 u.2.2.2.2.2.1 u.2.2.2.2.2.2.1 u.2.2.2.2.2.2.2.1 u.2.2.2.2.2.2.2.2.1 u.2.2.2.2.2.2.2.2.2.1 u.2.2.2.2.2.2.2.2.2.2.1 u.2.2.2.2.2.2.2.2.2.2.2.1 u.2.2.2.2.2.2.2.2.2.2.2.2.1 u.2.2.2.2.2.2.2.2.2.2.2.2.2.1 u.2.2.2.2.2.2.2.2.2.2.2.2.2.2.1 u.2.2.2.2.2.2.2.2.2.2.2.2.2.2.2.1 u.2.2.2.2.2.2.2.2.2.2.2.2.2.2.2.2.1 u.2.2.2.2.2.2.2.2.2.2.2.2.2.2.2.2.2.1 u.2.2.2.2.2.2.2.2.2.2.2.2.2.2.2.2.2.2.1 u.2.2.2.2.2.2.2.2.2.2.2.2.2.2.2.2.2.2.2.1 u.2.2.2.2.2.2.2.2.2.2.2.2.2.2.2.2.2.2.2.2.1 u.2.2.2.2.2.2.2.2.2.2.2.2.2.2.2.2.2.2.2.2.2.1 u.2.2.2.2.2.2.2.2.2.2.2.2.2.2.2.2.2.2.2.2.2.2.1 u.2.2.2.2.2.2.2.2.2.2.2.2.2.2.2.2.2.2.2.2.2.2.2.1 u.2.2.2.2.2.2.2.2.2.2.2.2.2.2.2.2.2.2.2.2.2.2.2.2.1 u.2.2.2.2.2.2.2.2.2.2.2.2.2.2.2.2.2.2.2.2.2.2.2.2.2.1 u.2.2.2.2.2.2.2.2.2.2.2.2.2.2.2.2.2.2.2.2.2.2.2.2.2.2.1 u.2.2.2.2.2.2.2.2.2.2.2.2.2.2.2.2.2.2.2.2.2.2.2.2.2.2.2) {x6 x7 x8 x9 : Int32} {k : Nat} :
    wL_law_343 post L xs J (nI i) x3 x6 x7 x8 x9 kc ks (k + 1) (nI 2) 0 (nI p) (nI n) (nI m) (nI nn) sf ft fr a1 a2 a3 a4 a5 a6 a7 a8 a9 a10 a11 a12 a13 a14 a15 a16 a17 a18 a19 a20 := by
  have h60 := hC.2.1
  obtain ⟨t, ht, et⟩ := pk_andE (x3 >>> ((24 : Int32) &&& 31)) 5 (m := 31) (by decide)
  have ht' : t < 32 := ht
  refine pk_le 2 2 (fun _ => br_c (fun _ => nm_r et (la_between hC (by omega) ?_)) (fun _ => nm_r (nI_1 i) (hJ _ ⟨n, IT, TM, hn, hT, la_St_i hp hC⟩))) (fun z => absurd z (by omega))
  have hc := la_cb_le TM t n
  refine pk_le n (la_cb TM t n) (fun z => la_517 hC hn hT hp (by omega) hJ (fun q => absurd q (by omega))) (fun z => ?_)
  have e : nI n - 1 = nI (n - 1) := pk_sub (b := 1) (by omega)
  have gl := hC.1.1.1 (n - 1) (by omega)
  have hS := hC.1.2.1 _ gl.2.1
  have hlen := la_Ln_len hC.1.1 (l := n - 1) (by omega)
  rw [e]
  exact la_at (i := 0) hC (by omega) (by omega) (fun fr2 d16 d17 => la_517 hC hn hT hp (by omega) hJ (fun _ => rfl))
theorem la_424 {J343 : Int32 → Int32 → Int32 → Int32 → Int32 → Int32 → Int32 → Int64 → Int32 → (Nat → Int32) → (Nat → Int32) → (Nat → Int32) → (Nat → Int32) → (Nat → Int32) → (Nat → Int32) → (Nat → Int32) → (Nat → Int32) → (Nat → Int64) → (Nat → Int32) → (Nat → Int64) → (Nat → Int32) → (Nat → Int32) → (Nat → Int32) → (Nat → Int32) → (Nat → Int32) → (Nat → Int32) → (Nat → Int32) → (Nat → Int32) → (Nat → Int32) → Prop} {x2 x9 : Int32} {a b e c : Nat} (hC : la_C n m nn sh SL IT TM a3 a4 a5 a6 a7 a8 a9 a10 a12 a13 a14 a15) (hab : a ≤ b) (hbe : b + 1 ≤ e) (he : e ≤ 100)
    (hF : ∀ pst : Int32 → St1 → Prop, (∀ ft' fr' c17, pst (nI (la_in ft' (la_cb TM a n) (la_cb TM (b + 1) n))) (dc, nI p, nI n, nI m, nd, 1, ft', fr', a1, a2, a3, a4, a5, a6, a7, a8, a9, a10, a11, a12, a13, a14, a15, a16, c17, a18, a19, a20)) → wpX_fitting pst (dc, nI p, nI n, nI m, nd, sf, ft, fr, a1, a2, a3, a4, a5, a6, a7, a8, a9, a10, a11, a12, a13, a14, a15, a16, a17, a18, a19, a20) (nI a) (nI b))
    (H : ∀ ft' fr' c17, J343 (nI (c + 1)) dc (nI p) (nI n) (nI m) nd 1 ft' fr' a1 a2 a3 a4 a5 a6 a7 a8 a9 a10 a11 a12 a13 a14 a15 a16 c17 a18 a19 a20) :
    wL_law_424 post L xs J J343 x2 x3 (nI a) (nI b) (nI e) x9 (nI c) kc ks dc (nI p) (nI n) (nI m) nd sf ft fr a1 a2 a3 a4 a5 a6 a7 a8 a9 a10 a11 a12 a13 a14 a15 a16 a17 a18 a19 a20 := by
  unfold wL_law_424
  refine hF _ (fun ft' fr' c17 => ?_)
  dsimp only
  rw [nI_1 b]
  refine la_fitting' hC (by omega) (by omega) (la_fitting' hC (by omega) (by omega) (br_t ?_ (nm_r (nI_1 c) (H ft' fr' c17))))
  show nI (la_in ft' (la_cb TM a n) (la_cb TM (b + 1) n)) + nI (la_in ft' (la_cb TM (b + 1) n) (la_cb TM (e + 1) n)) = nI (la_in ft' (la_cb TM a n) (la_cb TM (e + 1) n))
  rw [nI_add]
  unfold la_in
  rw [la_cnt_cut (la_b ft') _ _ _ (la_cb_mono (by omega)) (la_cb_mono (by omega))]
/-- the pattern that is one gap fits every line -/
theorem la_Ft_gap (hC : la_C n m nn sh SL IT TM a3 a4 a5 a6 a7 a8 a9 a10 a12 a13 a14 a15) {l : Nat} (h : a2 0 = 2002) : la_Ft sh SL IT a2 1 l := by
  have g : ∀ len tk, la_Mt a2 1 len tk := fun len tk => ⟨fun _ => 0, rfl, fun i _ => ⟨Nat.zero_lt_one, Or.inl ⟨h, rfl⟩⟩, Or.inr ⟨rfl, h⟩⟩
  exact ⟨g _ _, g _ _⟩
theorem la_357_0 {J343 : Int32 → Int32 → Int32 → Int32 → Int32 → Int32 → Int32 → Int64 → Int32 → (Nat → Int32) → (Nat → Int32) → (Nat → Int32) → (Nat → Int32) → (Nat → Int32) → (Nat → Int32) → (Nat → Int32) → (Nat → Int32) → (Nat → Int64) → (Nat → Int32) → (Nat → Int64) → (Nat → Int32) → (Nat → Int32) → (Nat → Int32) → (Nat → Int32) → (Nat → Int32) → (Nat → Int32) → (Nat → Int32) → (Nat → Int32) → (Nat → Int32) → Prop} {x2 x9 : Int32} {a b e : Nat} (hC : la_C n m nn sh SL IT TM a3 a4 a5 a6 a7 a8 a9 a10 a12 a13 a14 a15) (hab : a ≤ b) (hbe : b + 1 ≤ e) (he : e ≤ 100)
    (H : ∀ ft' fr' c17 c2, J343 (nI 1) dc (nI 1) (nI n) (nI m) nd 1 ft' fr' a1 c2 a3 a4 a5 a6 a7 a8 a9 a10 a11 a12 a13 a14 a15 a16 c17 a18 a19 a20) :
    ∃ k, wL_law_357 post L xs J J343 x2 x3 (nI a) (nI b) (nI e) x9 (nI 0) kc ks k 0 dc (nI 0) (nI n) (nI m) nd 0 ft fr a1 a2 a3 a4 a5 a6 a7 a8 a9 a10 a11 a12 a13 a14 a15 a16 a17 a18 a19 a20 := by
  have h60 := hC.2.1
  refine ⟨2, br_t rfl ?_⟩
  unfold wL_law_370
  refine pk_le 1 0 (fun z => absurd z (by omega)) (fun _ => br_t rfl ?_)
  unfold wL_law_394
  refine la_part (k := 2002) (Or.inr (Or.inl (by omega))) (by decide) (nm_r (nI_1 0) (br_t rfl ?_))
  unfold wL_law_370
  refine pk_le 1 1 (fun _ => br_t rfl ?_) (fun z => absurd z (by omega))
  refine la_fitting0 (p := 1) (a := 0) (b := 1000) hC (by decide) (by decide) (by decide) (fun ft' fr' c17 h => ?_)
  have hall : ∀ l, l < n → la_b ft' l = true := fun l hl => h l hl (la_Ft_gap hC pk_us)
  have e : la_in ft' (la_cb TM 0 n) (if 1000 < 1000 then la_cb TM (1000 + 1) n else n) = n := by
    rw [if_neg (by decide), la_cb0]
    unfold la_in
    rw [la_cnt_add _ h60 (fun j q1 q2 => by rw [decide_eq_false (show ¬ j < n by omega)]; simp), la_cnt_eq (g := fun _ => true) (fun j hj => by simp [hall j hj, hj]), la_cnt_all]
  rw [e]
  refine br_t rfl (la_424 (c := 0) hC hab hbe he (fun pst hp => la_fitting' hC (by omega) (by omega) (hp ft' fr' c17)) (fun ft2 fr2 d17 => H _ _ _ _))
theorem la_357_1 {J343 : Int32 → Int32 → Int32 → Int32 → Int32 → Int32 → Int32 → Int64 → Int32 → (Nat → Int32) → (Nat → Int32) → (Nat → Int32) → (Nat → Int32) → (Nat → Int32) → (Nat → Int32) → (Nat → Int32) → (Nat → Int32) → (Nat → Int64) → (Nat → Int32) → (Nat → Int64) → (Nat → Int32) → (Nat → Int32) → (Nat → Int32) → (Nat → Int32) → (Nat → Int32) → (Nat → Int32) → (Nat → Int32) → (Nat → Int32) → (Nat → Int32) → Prop} {x2 : Int32} {a b e q : Nat} (hC : la_C n m nn sh SL IT TM a3 a4 a5 a6 a7 a8 a9 a10 a12 a13 a14 a15) (hab : a ≤ b) (hbe : b + 1 ≤ e) (he : e ≤ 100) (hq : q ≤ 4)
    (H : ∀ ft' fr' c17 c2, J343 (nI 2) dc (nI q) (nI n) (nI m) nd 1 ft' fr' a1 c2 a3 a4 a5 a6 a7 a8 a9 a10 a11 a12 a13 a14 a15 a16 c17 a18 a19 a20) :
    ∃ k, wL_law_357 post L xs J J343 x2 x3 (nI a) (nI b) (nI e) (nI q) (nI 1) kc ks k 0 dc (nI 0) (nI n) (nI m) nd 0 ft fr a1 a2 a3 a4 a5 a6 a7 a8 a9 a10 a11 a12 a13 a14 a15 a16 a17 a18 a19 a20 := by
  refine pk_loop (σ := Nat → Int32) (fun k j c => wL_law_357 post L xs J J343 x2 x3 (nI a) (nI b) (nI e) (nI q) (nI 1) kc ks k (nI j) dc (nI j) (nI n) (nI m) nd 0 ft fr a1 c a3 a4 a5 a6 a7 a8 a9 a10 a11 a12 a13 a14 a15 a16 a17 a18 a19 a20) (fun _ _ => True) q 0 a2 (Nat.zero_le _) trivial ?_ ?_
  · intro k c _
    refine br_f (by decide) ?_
    unfold wL_law_370
    refine pk_le q q (fun _ => br_f (by decide) ?_) (fun z => absurd z (by omega))
    exact la_424 (c := 1) hC hab hbe he (fun pst hp => la_fitting0' hC (by omega) (by omega) (by omega) hp) (fun ft2 fr2 d17 => H _ _ _ _)
  · intro k j c hj _ hw
    refine br_f (by decide) ?_
    unfold wL_law_370
    refine pk_le q j (fun z => absurd z (by omega)) (fun _ => br_f (by decide) (la_partOf (fun y hy => ?_)))
    unfold wL_law_394
    exact la_part hy (by omega) (nm_r (nI_1 j) (hw _ trivial))
theorem la_343 {a b e q : Nat} (hC : la_C n m nn sh SL IT TM a3 a4 a5 a6 a7 a8 a9 a10 a12 a13 a14 a15) (hn : n ≤ 9 * (i + 1)) (hT : ∀ l, l < n → TM l ≤ 27 * (i + 1)) (hp : p ≤ 8) (hJ : ∀ u, la_R (i + 1) u → J (nI (i + 1)) u.1 u.2.1 u.2.2.1 u.2.2.2.1 u.2.2.2.2.1 u.2.2.2.2.2.1 u.2.2.2.2.2.2.1 u.2.2.2.2.2.2.2.1 u.2.2.2.2.2.2.2.2.1 u.2.2.2.2.2.2.2.2.2.1 u.2.2.2.2.2.2.2.2.2.2.1 u.2.2.2.2.2.2.2.2.2.2.2.1 u.2.2.2.2.2.2.2.2.2.2.2.2.1 u.2.2.2.2.2.2.2.2.2.2.2.2.2.1 u.2.2.2.2.2.2.2.2.2.2.2.2.2.2.1 u.2.2.2.2.2.2.2.2.2.2.2.2.2.2.2.1 u.2.2.2.2.2.2.2.2.2.2.2.2.2.2.2.2.1 u.2.2.2.2.2.2.2.2.2.2.2.2.2.2.2.2.2.1 u.2.2.2.2.2.2.2.2.2.2.2.2.2.2.2.2.2.2.1 u.2.2.2.2.2.2.2.2.2.2.2.2.2.2.2.2.2.2.2.1 u.2.2.2.2.2.2.2.2.2.2.2.2.2.2.2.2.2.2.2.2.1 u.2.2.2.2.2.2.2.2.2.2.2.2.2.2.2.2.2.2.2.2.2.1 u.2.2.2.2.2.2.2.2.2.2.2.2.2.2.2.2.2.2.2.2.2.2.1 u.2.2.2.2.2.2.2.2.2.2.2.2.2.2.2.2.2.2.2.2.2.2.2.1 u.2.2.2.2.2.2.2.2.2.2.2.2.2.2.2.2.2.2.2.2.2.2.2.2.1 u.2.2.2.2.2.2.2.2.2.2.2.2.2.2.2.2.2.2.2.2.2.2.2.2.2.1 u.2.2.2.2.2.2.2.2.2.2.2.2.2.2.2.2.2.2.2.2.2.2.2.2.2.2.1 u.2.2.2.2.2.2.2.2.2.2.2.2.2.2.2.2.2.2.2.2.2.2.2.2.2.2.2) (hab : a ≤ b) (hbe : b + 1 ≤ e) (he : e ≤ 100) (hq : q ≤ 4) :
    ∃ k, wL_law_343 post L xs J (nI i) x3 (nI a) (nI b) (nI e) (nI q) kc ks k 0 0 (nI p) (nI n) (nI m) (nI nn) sf ft fr a1 a2 a3 a4 a5 a6 a7 a8 a9 a10 a11 a12 a13 a14 a15 a16 a17 a18 a19 a20 := by
  refine ⟨3, pk_le 2 0 (fun z => absurd z (by omega)) (fun _ => ?_)⟩
  refine la_357_0 hC hab hbe he (fun ft' fr' c17 c2 => ?_)
  refine pk_le 2 1 (fun z => absurd z (by omega)) (fun _ => ?_)
  exact la_357_1 hC hab hbe he hq (fun ft' fr' c17 c2 => la_end (J343 := True) (k := 0) hC hn hT (by omega) hJ)
theorem la_296 (hC : la_C n m nn sh SL IT TM a3 a4 a5 a6 a7 a8 a9 a10 a12 a13 a14 a15) (hn : n ≤ 9 * (i + 1)) (hT : ∀ l, l < n → TM l ≤ 27 * (i + 1)) (hp : p ≤ 8) (hJ : ∀ u, la_R (i + 1) u → J (nI (i + 1)) u.1 u.2.1 u.2.2.1 u.2.2.2.1 u.2.2.2.2.1 u.2.2.2.2.2.1 u.2.2.2.2.2.2.1 u.2.2.2.2.2.2.2.1 u.2.2.2.2.2.2.2.2.1 u.2.2.2.2.2.2.2.2.2.1 u.2.2.2.2.2.2.2.2.2.2.1 u.2.2.2.2.2.2.2.2.2.2.2.1 u.2.2.2.2.2.2.2.2.2.2.2.2.1 u.2.2.2.2.2.2.2.2.2.2.2.2.2.1 u.2.2.2.2.2.2.2.2.2.2.2.2.2.2.1 u.2.2.2.2.2.2.2.2.2.2.2.2.2.2.2.1 u.2.2.2.2.2.2.2.2.2.2.2.2.2.2.2.2.1 u.2.2.2.2.2.2.2.2.2.2.2.2.2.2.2.2.2.1 u.2.2.2.2.2.2.2.2.2.2.2.2.2.2.2.2.2.2.1 u.2.2.2.2.2.2.2.2.2.2.2.2.2.2.2.2.2.2.2.1 u.2.2.2.2.2.2.2.2.2.2.2.2.2.2.2.2.2.2.2.2.1 u.2.2.2.2.2.2.2.2.2.2.2.2.2.2.2.2.2.2.2.2.2.1 u.2.2.2.2.2.2.2.2.2.2.2.2.2.2.2.2.2.2.2.2.2.2.1 u.2.2.2.2.2.2.2.2.2.2.2.2.2.2.2.2.2.2.2.2.2.2.2.1 u.2.2.2.2.2.2.2.2.2.2.2.2.2.2.2.2.2.2.2.2.2.2.2.2.1 u.2.2.2.2.2.2.2.2.2.2.2.2.2.2.2.2.2.2.2.2.2.2.2.2.2.1 u.2.2.2.2.2.2.2.2.2.2.2.2.2.2.2.2.2.2.2.2.2.2.2.2.2.2.1 u.2.2.2.2.2.2.2.2.2.2.2.2.2.2.2.2.2.2.2.2.2.2.2.2.2.2.2) :
    wL_law_296 post L xs J (nI i) x3 kc ks 0 (nI p) (nI n) (nI m) (nI nn) sf ft fr a1 a2 a3 a4 a5 a6 a7 a8 a9 a10 a11 a12 a13 a14 a15 a16 a17 a18 a19 a20 := by
  obtain ⟨a, ha, ea⟩ := pk_andE (x3 >>> ((4 : Int32) &&& 31)) 5 (m := 31) (by decide)
  obtain ⟨b, hb, eb⟩ := pk_andE (x3 >>> ((9 : Int32) &&& 31)) 4 (m := 15) (by decide)
  obtain ⟨c, hc, ec⟩ := pk_andE (x3 >>> ((13 : Int32) &&& 31)) 5 (m := 31) (by decide)
  obtain ⟨d, hd, ed⟩ := pk_andE (x3 >>> ((18 : Int32) &&& 31)) 2 (m := 3) (by decide)
  have ha' : a < 32 := ha
  have hb' : b < 16 := hb
  have hc' : c < 32 := hc
  have hd' : d < 4 := hd
  unfold wL_law_296
  refine nm_r ea (nm_r (e' := nI (a + b)) (by rw [eb, nI_add]) (nm_r (e' := nI (a + b + 1 + c)) (by rw [ec, nI_1, nI_add]) (nm_r (e' := nI (1 + d)) (by rw [ed, show (1 : Int32) = nI 1 from rfl, nI_add]) ?_)))
  exact la_343 hC hn hT hp hJ (by omega) (by omega) (by omega) (by omega)
end
end
section
section
variable {dc pc ln sp nd sf fr : Int32} {ft : Int64} {a1 a2 a3 a4 a5 a6 a7 a8 a10 a12 a13 a14 a15 a16 a17 a18 a19 a20 : Nat → Int32} {a9 a11 : Nat → Int64}
variable {n m nn : Nat} {sh : Nat → Nat} {SL IT : Nat → List Nat} {TM : Nat → Nat} {p i : Nat}
variable {post : Int32 → Prop} {L : Nat} {xs : Nat → Int32} {J : Int32 → Int32 → Int32 → Int32 → Int32 → Int32 → Int32 → Int64 → Int32 → (Nat → Int32) → (Nat → Int32) → (Nat → Int32) → (Nat → Int32) → (Nat → Int32) → (Nat → Int32) → (Nat → Int32) → (Nat → Int32) → (Nat → Int64) → (Nat → Int32) → (Nat → Int64) → (Nat → Int32) → (Nat → Int32) → (Nat → Int32) → (Nat → Int32) → (Nat → Int32) → (Nat → Int32) → (Nat → Int32) → (Nat → Int32) → (Nat → Int32) → Prop} {x3 : Int32} {kc ks : Nat}
/-- the pattern that is a line's own items fits it -/
theorem la_Ft_own (hC : la_C n m nn sh SL IT TM a3 a4 a5 a6 a7 a8 a9 a10 a12 a13 a14 a15) {l : Nat} (hl : l < n) (h : ∀ k, k < (IT l).length → a2 k = nI ((IT l).getD k 0)) : la_Ft sh SL IT a2 (IT l).length l := by
  have g := hC.1.1.1 l hl
  have hlen := la_Ln_len hC.1.1 hl
  have h2 : ∀ k, k < (IT l).length → ¬ a2 k = 2002 := by
    intro k hk e
    have h2000 := la_Ln_2000 hC.1.1 hl k
    rw [h k hk] at e
    have := (nI_eq (a := (IT l).getD k 0) (b := 2002) (by omega) (by decide)).mp e
    omega
  refine ⟨⟨fun k => k, rfl, fun k hk => ⟨by show k < _; omega, Or.inr ⟨h2 k (by omega), ?_, rfl⟩⟩, Or.inl hlen.symm⟩, ⟨fun k => k, rfl, fun k hk => ⟨hk, Or.inr ⟨h2 k hk, ?_, rfl⟩⟩, Or.inl rfl⟩⟩
  · have hk' : k < (IT l).length := by omega
    have hb := la_Ln_bl hC.1.1 hl hk'
    have h2000 := la_Ln_2000 hC.1.1 hl k
    unfold la_tkS la_tk
    rw [h k hk']
    by_cases z : (SL (sh l)).getD k 0 = 1000
    · rw [if_pos z]
      exact Or.inl ⟨by decide, nI_nlt (b := 1000) (hb.mp z) (by omega)⟩
    · rw [if_neg z]
      refine Or.inr ⟨rfl, nI_ge (b := 2000) (by omega) (by decide), ?_⟩
      have q : ¬ 1000 ≤ (IT l).getD k 0 := fun q => z (hb.mpr q)
      rw [← g.2.2.1, la_getD_map]
      unfold la_blk
      rw [if_neg q]
  · have h2000 := la_Ln_2000 hC.1.1 hl k
    unfold la_tkL la_tk
    rw [h k hk]
    exact Or.inr ⟨rfl, nI_ge (b := 2000) (by omega) (by decide), rfl⟩
theorem la_164 {w l : Nat} (hC : la_C n m nn sh SL IT TM a3 a4 a5 a6 a7 a8 a9 a10 a12 a13 a14 a15) (hn : n ≤ 9 * (i + 1)) (hT : ∀ l, l < n → TM l ≤ 27 * (i + 1)) (hJ : ∀ u, la_R (i + 1) u → J (nI (i + 1)) u.1 u.2.1 u.2.2.1 u.2.2.2.1 u.2.2.2.2.1 u.2.2.2.2.2.1 u.2.2.2.2.2.2.1 u.2.2.2.2.2.2.2.1 u.2.2.2.2.2.2.2.2.1 u.2.2.2.2.2.2.2.2.2.1 u.2.2.2.2.2.2.2.2.2.2.1 u.2.2.2.2.2.2.2.2.2.2.2.1 u.2.2.2.2.2.2.2.2.2.2.2.2.1 u.2.2.2.2.2.2.2.2.2.2.2.2.2.1 u.2.2.2.2.2.2.2.2.2.2.2.2.2.2.1 u.2.2.2.2.2.2.2.2.2.2.2.2.2.2.2.1 u.2.2.2.2.2.2.2.2.2.2.2.2.2.2.2.2.1 u.2.2.2.2.2.2.2.2.2.2.2.2.2.2.2.2.2.1 u.2.2.2.2.2.2.2.2.2.2.2.2.2.2.2.2.2.2.1 u.2.2.2.2.2.2.2.2.2.2.2.2.2.2.2.2.2.2.2.1 u.2.2.2.2.2.2.2.2.2.2.2.2.2.2.2.2.2.2.2.2.1 u.2.2.2.2.2.2.2.2.2.2.2.2.2.2.2.2.2.2.2.2.2.1 u.2.2.2.2.2.2.2.2.2.2.2.2.2.2.2.2.2.2.2.2.2.2.1 u.2.2.2.2.2.2.2.2.2.2.2.2.2.2.2.2.2.2.2.2.2.2.2.1 u.2.2.2.2.2.2.2.2.2.2.2.2.2.2.2.2.2.2.2.2.2.2.2.2.1 u.2.2.2.2.2.2.2.2.2.2.2.2.2.2.2.2.2.2.2.2.2.2.2.2.2.1 u.2.2.2.2.2.2.2.2.2.2.2.2.2.2.2.2.2.2.2.2.2.2.2.2.2.2.1 u.2.2.2.2.2.2.2.2.2.2.2.2.2.2.2.2.2.2.2.2.2.2.2.2.2.2.2) (hw : w < n) (hl : l < n) (hit : IT w = IT l) :
    ∃ k, wL_law_164 post L xs J (nI i) x3 (nI w) (nI l) kc ks k 0 0 (nI 0) (nI n) (nI m) (nI nn) 0 ft fr a1 a2 a3 a4 a5 a6 a7 a8 a9 a10 a11 a12 a13 a14 a15 a16 a17 a18 a19 a20 := by
  have h60 := hC.2.1
  have g := hC.1.1.1 l hl
  have hS := hC.1.2.1 _ g.2.1
  have hlen := la_Ln_len hC.1.1 hl
  refine la_lp4 (fun k j f c2 c16 c17 => wL_law_164 post L xs J (nI i) x3 (nI w) (nI l) kc ks k (nI j) 0 (nI j) (nI n) (nI m) (nI nn) 0 ft f a1 c2 a3 a4 a5 a6 a7 a8 a9 a10 a11 a12 a13 a14 a15 c16 c17 a18 a19 a20)
    (fun j f c2 c16 c17 => ∀ k, k < j → c2 k = nI ((IT l).getD k 0)) (IT l).length 0 fr a2 a16 a17 (Nat.zero_le _) (fun k hk => absurd hk (Nat.not_lt_zero k)) ?_ ?_
  · intro k f c2 c16 c17 hI
    unfold wL_law_164
    refine la_length hC hl ?_
    refine pk_le (IT l).length (IT l).length (fun _ => ?_) (fun z => absurd z (by omega))
    exact la_next hC (by omega) hl (la_Ft_own hC hl hI) (fun ft' fr' c17 => br_t rfl (la_296 hC hn hT (by omega) hJ))
  · intro k j f c2 c16 c17 hj hI hk
    have hitm := g.2.2.2 _ (la_getD_mem hj)
    have step : ∀ f' d16 d17, wL_law_164 post L xs J (nI i) x3 (nI w) (nI l) kc ks k (nI (j + 1)) 0 (nI (j + 1)) (nI n) (nI m) (nI nn) 0 ft f' a1 (upd c2 j (nI ((IT l).getD j 0))) a3 a4 a5 a6 a7 a8 a9 a10 a11 a12 a13 a14 a15 d16 d17 a18 a19 a20 := by
      intro f' d16 d17
      refine hk f' _ d16 d17 (fun q hq => ?_)
      by_cases e : q = j
      · rw [e, pk_us]
      · rw [pk_un e]
        exact hI q (by omega)
    unfold wL_law_164
    refine la_length hC hl ?_
    refine pk_le (IT l).length j (fun z => absurd z (by omega)) (fun _ => ?_)
    refine la_column (w := 2) hC hl hj (by omega) (fun f1 d1 => ?_)
    refine la_at hC hw (by rw [hit]; exact hj) (fun f2 e2 d2 => la_at hC hl hj (fun f3 e3 d3 => br_t (by rw [hit]) (la_at hC hl hj (fun f4 e4 d4 => la_part (Or.inl hitm) (by omega) (br_t (nI_1 j).symm ?_)))))
    refine br_c (fun _ => nm_r (nI_1 j) (step _ _ _)) (fun z => ?_)
    have ok := la_col_ok hC (i := j) hl z
    refine la_column (w := 0) hC hl hj (by omega) (fun f5 d5 => la_members hC hl (br_f ok.1 ?_))
    exact la_column (w := 1) hC hl hj (by omega) (fun f6 d6 => la_members hC hl (br_t ok.2 (nm_r (nI_1 j) (step _ _ _))))
theorem la_69 {l : Nat} (hC : la_C n m nn sh SL IT TM a3 a4 a5 a6 a7 a8 a9 a10 a12 a13 a14 a15) (hn : n ≤ 9 * i + 8) (hT : ∀ l, l < n → TM l ≤ 27 * i + 24) (hJ : ∀ u, la_R (i + 1) u → J (nI (i + 1)) u.1 u.2.1 u.2.2.1 u.2.2.2.1 u.2.2.2.2.1 u.2.2.2.2.2.1 u.2.2.2.2.2.2.1 u.2.2.2.2.2.2.2.1 u.2.2.2.2.2.2.2.2.1 u.2.2.2.2.2.2.2.2.2.1 u.2.2.2.2.2.2.2.2.2.2.1 u.2.2.2.2.2.2.2.2.2.2.2.1 u.2.2.2.2.2.2.2.2.2.2.2.2.1 u.2.2.2.2.2.2.2.2.2.2.2.2.2.1 u.2.2.2.2.2.2.2.2.2.2.2.2.2.2.1 u.2.2.2.2.2.2.2.2.2.2.2.2.2.2.2.1 u.2.2.2.2.2.2.2.2.2.2.2.2.2.2.2.2.1 u.2.2.2.2.2.2.2.2.2.2.2.2.2.2.2.2.2.1 u.2.2.2.2.2.2.2.2.2.2.2.2.2.2.2.2.2.2.1 u.2.2.2.2.2.2.2.2.2.2.2.2.2.2.2.2.2.2.2.1 u.2.2.2.2.2.2.2.2.2.2.2.2.2.2.2.2.2.2.2.2.1 u.2.2.2.2.2.2.2.2.2.2.2.2.2.2.2.2.2.2.2.2.2.1 u.2.2.2.2.2.2.2.2.2.2.2.2.2.2.2.2.2.2.2.2.2.2.1 u.2.2.2.2.2.2.2.2.2.2.2.2.2.2.2.2.2.2.2.2.2.2.2.1 u.2.2.2.2.2.2.2.2.2.2.2.2.2.2.2.2.2.2.2.2.2.2.2.2.1 u.2.2.2.2.2.2.2.2.2.2.2.2.2.2.2.2.2.2.2.2.2.2.2.2.2.1 u.2.2.2.2.2.2.2.2.2.2.2.2.2.2.2.2.2.2.2.2.2.2.2.2.2.2.1 u.2.2.2.2.2.2.2.2.2.2.2.2.2.2.2.2.2.2.2.2.2.2.2.2.2.2.2) (hi : i < 5) (hl : l < n) :
    wL_law_69 post L xs J (nI i) x3 (nI n) (nI l) kc ks 0 (nI p) (nI n) (nI m) (nI nn) sf ft fr a1 a2 a3 a4 a5 a6 a7 a8 a9 a10 a11 a12 a13 a14 a15 a16 a17 a18 a19 a20 := by
  have h60 := hC.2.1
  have g := hC.1.1.1 l hl
  have hS := hC.1.2.1 _ g.2.1
  have hlen := la_Ln_len hC.1.1 hl
  obtain ⟨y, hy, ey⟩ := pk_andE x3 2 (m := 3) (by decide)
  have hy' : y < 4 := hy
  unfold wL_law_69
  refine br_f (nI_pos (by omega)) (br_f (nI_ge (b := 60) (by omega) (by decide)) (la_members hC hl ?_))
  rw [show nI n - 1 = nI (n - 1) from pk_sub (b := 1) (by omega)]
  refine la_time hC.1.1 h60 (by omega) (nm_r (e' := nI (TM (n - 1) + y)) (by rw [ey, nI_add]) ?_)
  have hTn := hT (n - 1) (by omega)
  refine la_recall hC hl (fun fr' c1 c16 c17 h => br_f (nI_nlt (b := 1) (by omega) (by omega)) ?_)
  refine la_write hC (by omega) (by omega) (by omega) g.2.2.2 h (by omega) (fun k hk => by have := hC.1.1.2.2 k (n - 1) (by omega) (by omega); omega) (fun m' nn' sh' SL' c3 c4 c5 c6 c7 c8 c9 c10 c11 c12 c13 c14 c15 hC' hsh => br_t rfl ?_)
  have gn := hC'.1.1.1 n (by omega)
  have gl := hC'.1.1.1 l (by omega)
  have hitn : va_up IT n (IT l) n = va_up IT n (IT l) l := by rw [la_ups, la_upn (by omega)]
  have es : sh' n = sh' l := la_Tr_inj hC'.1.2.2.2.2.2 (by have := hC'.2.1; have := hC'.2.2.1; omega) gn.2.1 gl.2.1 (by rw [← gn.2.2.1, ← gl.2.2.1, hitn])
  obtain ⟨f, f1, f2⟩ := la_fst_ex hC' gl.2.1
  have hmem : la_mem sh' (n + 1) (sh' l) = la_mem sh n (sh l) + 1 := by
    show la_cnt (fun k => decide (sh' k = sh' l)) n + (decide (sh' n = sh' l)).toNat = la_cnt (fun k => decide (sh k = sh l)) n + 1
    rw [decide_eq_true es, la_cnt_eq (g := fun k => decide (sh k = sh l)) (fun k hk => by rw [hsh k hk, hsh l hl])]
    rfl
  refine la_group hC' (by omega) f1 (by rw [es]; exact f2) (la_group hC' (by omega) f1 f2 (br_t rfl (la_members hC' (by omega) (br_t (by rw [hmem, nI_1]) ?_))))
  unfold wpX_blank
  refine la_164 hC' (by omega) (fun k hk => ?_) hJ (by omega) (by omega) hitn
  by_cases e : k = n
  · rw [e, la_ups]
    omega
  · rw [la_upn e]
    have := hT k (by omega)
    omega
theorem la_10 {u : St1} (hL : L ≤ 260) (H : post 1) (h : la_R 0 u) : ∃ k, wL_law_10 post L xs kc ks k 0 u.1 u.2.1 u.2.2.1 u.2.2.2.1 u.2.2.2.2.1 u.2.2.2.2.2.1 u.2.2.2.2.2.2.1 u.2.2.2.2.2.2.2.1 u.2.2.2.2.2.2.2.2.1 u.2.2.2.2.2.2.2.2.2.1 u.2.2.2.2.2.2.2.2.2.2.1 u.2.2.2.2.2.2.2.2.2.2.2.1 u.2.2.2.2.2.2.2.2.2.2.2.2.1 u.2.2.2.2.2.2.2.2.2.2.2.2.2.1 u.2.2.2.2.2.2.2.2.2.2.2.2.2.2.1 u.2.2.2.2.2.2.2.2.2.2.2.2.2.2.2.1 u.2.2.2.2.2.2.2.2.2.2.2.2.2.2.2.2.1 u.2.2.2.2.2.2.2.2.2.2.2.2.2.2.2.2.2.1 u.2.2.2.2.2.2.2.2.2.2.2.2.2.2.2.2.2.2.1 u.2.2.2.2.2.2.2.2.2.2.2.2.2.2.2.2.2.2.2.1 u.2.2.2.2.2.2.2.2.2.2.2.2.2.2.2.2.2.2.2.2.1 u.2.2.2.2.2.2.2.2.2.2.2.2.2.2.2.2.2.2.2.2.2.1 u.2.2.2.2.2.2.2.2.2.2.2.2.2.2.2.2.2.2.2.2.2.2.1 u.2.2.2.2.2.2.2.2.2.2.2.2.2.2.2.2.2.2.2.2.2.2.2.1 u.2.2.2.2.2.2.2.2.2.2.2.2.2.2.2.2.2.2.2.2.2.2.2.2.1 u.2.2.2.2.2.2.2.2.2.2.2.2.2.2.2.2.2.2.2.2.2.2.2.2.2.1 u.2.2.2.2.2.2.2.2.2.2.2.2.2.2.2.2.2.2.2.2.2.2.2.2.2.2.1 u.2.2.2.2.2.2.2.2.2.2.2.2.2.2.2.2.2.2.2.2.2.2.2.2.2.2.2 := by
  refine pk_loop (σ := St1) (fun k i u => wL_law_10 post L xs kc ks k (nI i) u.1 u.2.1 u.2.2.1 u.2.2.2.1 u.2.2.2.2.1 u.2.2.2.2.2.1 u.2.2.2.2.2.2.1 u.2.2.2.2.2.2.2.1 u.2.2.2.2.2.2.2.2.1 u.2.2.2.2.2.2.2.2.2.1 u.2.2.2.2.2.2.2.2.2.2.1 u.2.2.2.2.2.2.2.2.2.2.2.1 u.2.2.2.2.2.2.2.2.2.2.2.2.1 u.2.2.2.2.2.2.2.2.2.2.2.2.2.1 u.2.2.2.2.2.2.2.2.2.2.2.2.2.2.1 u.2.2.2.2.2.2.2.2.2.2.2.2.2.2.2.1 u.2.2.2.2.2.2.2.2.2.2.2.2.2.2.2.2.1 u.2.2.2.2.2.2.2.2.2.2.2.2.2.2.2.2.2.1 u.2.2.2.2.2.2.2.2.2.2.2.2.2.2.2.2.2.2.1 u.2.2.2.2.2.2.2.2.2.2.2.2.2.2.2.2.2.2.2.1 u.2.2.2.2.2.2.2.2.2.2.2.2.2.2.2.2.2.2.2.2.1 u.2.2.2.2.2.2.2.2.2.2.2.2.2.2.2.2.2.2.2.2.2.1 u.2.2.2.2.2.2.2.2.2.2.2.2.2.2.2.2.2.2.2.2.2.2.1 u.2.2.2.2.2.2.2.2.2.2.2.2.2.2.2.2.2.2.2.2.2.2.2.1 u.2.2.2.2.2.2.2.2.2.2.2.2.2.2.2.2.2.2.2.2.2.2.2.2.1 u.2.2.2.2.2.2.2.2.2.2.2.2.2.2.2.2.2.2.2.2.2.2.2.2.2.1 u.2.2.2.2.2.2.2.2.2.2.2.2.2.2.2.2.2.2.2.2.2.2.2.2.2.2.1 u.2.2.2.2.2.2.2.2.2.2.2.2.2.2.2.2.2.2.2.2.2.2.2.2.2.2.2) la_R 5 0 u (by omega) h ?_ ?_
  · intro k u _
    exact pk_le 5 5 (fun _ => H) (fun z => absurd z (by omega))
  · intro k i u hi hR hw
    obtain ⟨n, IT, TM, hn, hT, p, m, nn, sh, SL, sf, ft, fr, a1, a2, a3, a4, a5, a6, a7, a8, a9, a10, a11, a12, a13, a14, a15, a16, a17, a18, a19, a20, hp, hC, rfl⟩ := hR
    refine pk_le 5 i (fun z => absurd z (by omega)) (fun _ => ?_)
    have e9 : (9 : Int32) * nI i = nI (9 * i) := pk_mul 9 i
    rw [e9]
    refine la_fill (t0 := 27 * i) hC hp hL (by omega) (by omega) (by omega) hT (fun n' IT' TM' u' hn' hT' hS => ?_)
    obtain ⟨p', m', nn', sh', SL', sf', ft', fr', b1, b2, b3, b4, b5, b6, b7, b8, b9, b10, b11, b12, b13, b14, b15, b16, b17, b18, b19, b20, hp', hC', rfl⟩ := hS
    have e8 : nI (9 * i) + 8 = nI (9 * i + 8) := nI_add _ 8
    dsimp only
    rw [e8]
    refine la_cell hL (by omega) (fun x => la_groups hC' (br_f (by decide) ?_))
    have h60 := hC'.2.1
    obtain ⟨j, hj, ej⟩ := pk_andE x 31 (m := 2147483647) (by decide)
    refine pk_eq n' 0 (fun z => ?_) (fun z => ⟨nI_ne0 (by omega) (by omega), ?_⟩)
    · unfold wL_law_69
      exact br_t (by decide) (la_296 hC' (by omega) (fun l hl => by have := hT' l hl; omega) hp' hw)
    · rw [ej, pk_rem hj (by omega) (by omega)]
      exact la_69 hC' (by omega) (fun l hl => by have := hT' l hl; omega) hw hi (Nat.mod_lt _ (by omega))
end
end
section
theorem i_vc (xs : Nat → Int32) (L : Nat) (hL : L ≤ 260) : wpL_law (fun r => r = 1) L xs := by
  refine ⟨20, 4813, by decide, by decide, ?_⟩
  unfold wpX_init
  dsimp only
  refine ⟨by decide, by decide, by decide, by decide, by decide, by decide, by decide, by decide, by decide, by decide, by decide, by decide, by decide, by decide, by decide, by decide, by decide, by decide, by decide, by decide, by decide, by decide, by decide, by decide, by decide, by decide, by decide, by decide, by decide, by decide, by decide, by decide, by decide, by decide, by decide, by decide, by decide, by decide, by decide, by decide, ?_⟩
  refine la_empty (fun _ => 0) (fun _ => []) (fun _ => []) (fun _ => 0) (fun c5 c11 c12 c13 c14 c15 hC => ?_)
  exact la_10 hL rfl ⟨0, _, _, Nat.le_refl _, fun l hl => absurd hl (Nat.not_lt_zero l), la_St_i (p := 0) (by decide) hC⟩
end
