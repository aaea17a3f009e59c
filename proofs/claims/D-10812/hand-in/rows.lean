section
/-! pure facts: items, parts, bits, bytes -/
abbrev la_num (x : Int32) : Prop := ¬ x < 1000 ∧ ¬ 2000 ≤ x
abbrev la_word (x : Int32) : Prop := ¬ x < 0 ∧ x < 24
abbrev la_item (x : Int32) : Prop := la_word x ∨ la_num x
abbrev la_part (x : Int32) : Prop := la_item x ∨ (¬ x < 2000 ∧ x ≤ 2002) ∨ (¬ x < 3000 ∧ ¬ 4000 ≤ x)
/-- meets, as the law says it -/
abbrev la_M (it pt : Int32) : Prop := pt = it ∨ pt = 2000 ∨ pt = 2002 ∨ (pt = 2001 ∧ la_num it) ∨ (¬ pt ≤ 2999 ∧ la_num it ∧ ¬ (it - 1000) ≤ (pt - 3000))
/-- takes, as the class says it -/
abbrev la_tk (p it bk : Int32) : Prop := p = 2000 ∨ (bk = 0 ∧ 2000 ≤ p ∧ la_num it ∧ (p = 2001 ∨ ¬ it - 1000 ≤ p - 3000)) ∨ (bk = 0 ∧ ¬ 2000 ≤ p ∧ p = it) ∨ (¬ bk = 0 ∧ ¬ p < 1000)
def la_bl (x : Int32) : Int32 := if la_num x then 1000 else x
def la_bk (x : Int32) : Int32 := if la_num x then 1 else 0
theorem la_bl_num {x : Int32} (h : la_num x) : la_bl x = 1000 := if_pos h
theorem la_bl_word {x : Int32} (h : ¬ la_num x) : la_bl x = x := if_neg h
theorem la_bl_eq {x : Int32} : la_bl x = 1000 ↔ la_num x := by
  constructor
  · intro h
    by_cases hn : la_num x
    · exact hn
    · rw [la_bl_word hn] at h
      rw [h]
      exact ⟨by decide, by decide⟩
  · exact la_bl_num
theorem la_t0 : (0 : Int32).toInt = 0 := by decide
theorem la_t1 : (1 : Int32).toInt = 1 := by decide
theorem la_t24 : (24 : Int32).toInt = 24 := by decide
theorem la_t1000 : (1000 : Int32).toInt = 1000 := by decide
theorem la_t1999 : (1999 : Int32).toInt = 1999 := by decide
theorem la_t2000 : (2000 : Int32).toInt = 2000 := by decide
theorem la_t2001 : (2001 : Int32).toInt = 2001 := by decide
theorem la_t2002 : (2002 : Int32).toInt = 2002 := by decide
theorem la_t2003 : (2003 : Int32).toInt = 2003 := by decide
theorem la_t2999 : (2999 : Int32).toInt = 2999 := by decide
theorem la_t3000 : (3000 : Int32).toInt = 3000 := by decide
theorem la_t4000 : (4000 : Int32).toInt = 4000 := by decide
/-- fits, as the law says it, is the class's isPart -/
theorem la_partL {x : Int32} : (la_item x ∨ (¬ x ≤ 1999 ∧ x < 2003) ∨ (¬ x ≤ 2999 ∧ ¬ 4000 ≤ x)) ↔ la_part x := by
  have e1 : (¬ x ≤ 1999 ∧ x < 2003) ↔ (¬ x < 2000 ∧ x ≤ 2002) := by
    rw [Int32.le_iff_toInt_le, Int32.le_iff_toInt_le, Int32.lt_iff_toInt_lt, Int32.lt_iff_toInt_lt, la_t1999, la_t2000, la_t2002, la_t2003]
    omega
  have e2 : (¬ x ≤ 2999) ↔ (¬ x < 3000) := by
    rw [Int32.le_iff_toInt_le, Int32.lt_iff_toInt_lt, la_t2999, la_t3000]
    omega
  rw [e1, e2]
theorem la_wn {x : Int32} (h : la_word x) : ¬ la_num x := by
  intro hn
  have h1 := h.2
  have h2 := hn.1
  rw [Int32.lt_iff_toInt_lt, la_t24] at h1
  rw [Int32.lt_iff_toInt_lt, la_t1000] at h2
  omega
theorem la_iw {x : Int32} (h : la_item x) (hn : ¬ la_num x) : la_word x := h.resolve_right hn
theorem la_wlt {x : Int32} (h : la_word x) : x < 1000 := by
  have h1 := h.2
  rw [Int32.lt_iff_toInt_lt, la_t24] at h1
  rw [Int32.lt_iff_toInt_lt, la_t1000]
  omega
/-- a word is a small natural -/
theorem la_wk {x : Int32} (h : la_word x) : ∃ k : Nat, k < 24 ∧ x = nI k := by
  obtain ⟨j, hj, e⟩ := nI_of h.1
  refine ⟨j, ?_, e⟩
  have h1 := h.2
  rw [e, Int32.lt_iff_toInt_lt, nI_toInt hj, la_t24] at h1
  omega
/-- a number less 1000 is a small natural -/
theorem la_nk {x : Int32} (h : la_num x) : ∃ k : Nat, k < 1000 ∧ x - 1000 = nI k := by
  have h0 : ¬ x < 0 := by
    intro z
    have h1 := h.1
    rw [Int32.lt_iff_toInt_lt, la_t0] at z
    rw [Int32.lt_iff_toInt_lt, la_t1000] at h1
    omega
  obtain ⟨j, hj, e⟩ := nI_of h0
  have h1 := h.1
  have h2 := h.2
  rw [e, Int32.lt_iff_toInt_lt, nI_toInt hj, la_t1000] at h1
  rw [e, Int32.le_iff_toInt_le, nI_toInt hj, la_t2000] at h2
  refine ⟨j - 1000, by omega, ?_⟩
  rw [e]
  exact pk_sub (a := j) (b := 1000) (by omega)
theorem la_back (x : Int32) : 1000 + (x - 1000) = x := by grind
/-- what the class finds is what the law says -/
theorem la_meets {it pt : Int32} (hi : la_item it) (hp : la_part pt) :
    ((pt = 2002 ∨ la_tk pt (la_bl it) (la_bk it)) ∧ (¬ (la_num pt ∨ ¬ pt < 3000) ∨ (pt = 2002 ∨ la_tk pt it 0))) ↔ la_M it pt := by
  by_cases hn : la_num it
  · rw [la_bl_num hn, show la_bk it = 1 from if_pos hn]
    have q1 : ¬ (1 : Int32) = 0 := by decide
    have q2 : la_num 1000 := ⟨by decide, by decide⟩
    simp only [la_M, la_tk, la_part, la_item, la_word, la_num, Int32.lt_iff_toInt_lt, Int32.le_iff_toInt_le, ← Int32.toInt_inj, la_t0, la_t1, la_t24, la_t1000, la_t2000, la_t2001, la_t2002, la_t2999, la_t3000, la_t4000, true_and, not_true_eq_false, false_and, or_false, false_or] at *
    omega
  · rw [la_bl_word hn, show la_bk it = 0 from if_neg hn]
    have hw := la_iw hi hn
    simp only [la_M, la_tk, la_part, la_item, la_word, la_num, Int32.lt_iff_toInt_lt, Int32.le_iff_toInt_le, ← Int32.toInt_inj, la_t0, la_t1, la_t24, la_t1000, la_t2000, la_t2001, la_t2002, la_t2999, la_t3000, la_t4000, true_and, not_true_eq_false, false_and, or_false, false_or] at *
    omega
/-! sets of lines -/
def la_full (n : Nat) : Int64 := if n = 1 then 1 else if n = 2 then 3 else 0
def la_cnt (s : Int64) : Nat → Nat → Int32 → Int32
  | 0, _, x => x
  | k + 1, i, x => la_cnt s k (i + 1) (x + ((s >>> ((nI i).toInt64 &&& 63)).toInt32 &&& 1))
theorem la_cnt0 : la_cnt 0 60 0 0 = 0 := by decide +kernel
theorem la_cnt1 : la_cnt 1 60 0 0 = 1 := by decide +kernel
theorem la_cnt3 : la_cnt 3 60 0 0 = 2 := by decide +kernel
theorem la_low0 : ∀ i, i < 60 → ((0 : Int64) >>> ((nI i).toInt64 &&& 63)) &&& 1 = 0 := by decide +kernel
/-! numbers in bytes -/
def la_z (x : Int32) : Int32 := if (x &&& 1) = 0 then x >>> ((1 : Int32) &&& 31) else -((x + 1) >>> ((1 : Int32) &&& 31))
/-- the bytes from k up to k' hold v -/
def la_dw (a : Nat → Int32) (k k' : Nat) (v : Int32) : Prop :=
  (k' = k + 1 ∧ (a k &&& 255) < 128 ∧ la_z (a k &&& 255) = v) ∨ (k' = k + 2 ∧ ¬ (a k &&& 255) < 128 ∧ la_z (((a k &&& 255) &&& 127) ||| ((a (k + 1) &&& 255) <<< ((7 : Int32) &&& 31))) = v)
def la_dec (a : Nat → Int32) (b : Int32) (v : Int32) : Prop := ∃ k k' : Nat, b = nI k ∧ k < 900 ∧ la_dw a k k' v
theorem la_dw_keep {a a' : Nat → Int32} {k k' : Nat} {v : Int32} (h : la_dw a k k' v) (e : ∀ j, j < k' → a' j = a j) : la_dw a' k k' v := by
  rcases h with ⟨h1, h2, h3⟩ | ⟨h1, h2, h3⟩
  · refine Or.inl ⟨h1, ?_, ?_⟩
    · rw [e k (by omega)]; exact h2
    · rw [e k (by omega)]; exact h3
  · refine Or.inr ⟨h1, ?_, ?_⟩
    · rw [e k (by omega)]; exact h2
    · rw [e k (by omega), e (k + 1) (by omega)]; exact h3
theorem la_enc1 : ∀ k, k < 1000 → ¬ (128 : Int32) ≤ 2 * nI k → ((2 * nI k).toInt8.toInt32 &&& 255) < 128 ∧ la_z ((2 * nI k).toInt8.toInt32 &&& 255) = nI k := by decide +kernel
theorem la_enc2 : ∀ k, k < 1000 → (128 : Int32) ≤ 2 * nI k → ¬ (((((2 * nI k) &&& 127) ||| 128).toInt8.toInt32) &&& 255) < 128 ∧ la_z (((((((2 * nI k) &&& 127) ||| 128).toInt8.toInt32) &&& 255) &&& 127) ||| (((((2 * nI k) >>> ((7 : Int32) &&& 31)).toInt8.toInt32) &&& 255) <<< ((7 : Int32) &&& 31))) = nI k := by decide +kernel
/-! places in the pattern -/
def la_og (g : Nat → Bool) : Nat → Nat → Int32 → Int32
  | 0, _, x => x
  | k + 1, i, x => la_og g k (i + 1) (if ((x >>> (nI i &&& 31)) &&& 1) = 1 then (if g i = true then x ||| ((1 : Int32) <<< ((nI i + 1) &&& 31)) else x ||| 0) else x ||| 0)
def la_af (s : Int32) (g t : Nat → Bool) : Nat → Nat → Int32 → Int32
  | 0, _, x => x
  | k + 1, i, x => la_af s g t k (i + 1) (if ((s >>> (nI i &&& 31)) &&& 1) = 1 then (if g i = true then x ||| ((1 : Int32) <<< (nI i &&& 31)) else if t i = true then x ||| ((1 : Int32) <<< ((nI i + 1) &&& 31)) else x ||| 0) else x)
def la_g (gb : Bool) (i : Nat) : Bool := gb || decide (1 ≤ i)
def la_t (tb : Bool) (_ : Nat) : Bool := tb
theorem la_bits1 : ∀ gb tb : Bool, (((la_og (la_g gb) 1 0 (la_af (la_og (la_g gb) 1 0 1) (la_g gb) (la_t tb) 1 0 0) >>> (nI 1 &&& 31)) &&& 1) = 1) ↔ ((gb || tb) = true) := by decide +kernel
theorem la_bits8 : ∀ gb tb : Bool, (((la_og (la_g gb) 8 0 (la_af (la_og (la_g gb) 8 0 1) (la_g gb) (la_t tb) 8 0 0) >>> (nI 8 &&& 31)) &&& 1) = 1) ↔ ((gb || tb) = true) := by decide +kernel
theorem la_bits {N : Nat} (hN : N = 1 ∨ N = 8) (gb tb : Bool) : (((la_og (la_g gb) N 0 (la_af (la_og (la_g gb) N 0 1) (la_g gb) (la_t tb) N 0 0) >>> (nI N &&& 31)) &&& 1) = 1) ↔ ((gb || tb) = true) := by
  rcases hN with h | h
  · subst h; exact la_bits1 gb tb
  · subst h; exact la_bits8 gb tb
/-! times -/
theorem la_succ {p : Int32} (h : p ≤ 1000) : (p + 1).toInt = p.toInt + 1 := by
  rw [Int32.le_iff_toInt_le, la_t1000] at h
  have h0 := p.le_toInt
  rw [Int32.toInt_add, la_t1]
  exact Int.bmod_eq_of_le (by omega) (by omega)
theorem la_ltS {t p : Int32} (h : p ≤ 1000) : t < p + 1 ↔ t ≤ p := by
  rw [Int32.lt_iff_toInt_lt, la_succ h, Int32.le_iff_toInt_le]
  omega
theorem la_pred {p : Int32} (h : ¬ p < 0) : ¬ p ≤ p - 1 := by
  rw [Int32.lt_iff_toInt_lt, la_t0] at h
  have h0 := p.toInt_lt
  rw [Int32.le_iff_toInt_le, Int32.toInt_sub, la_t1, Int.bmod_eq_of_le (by omega) (by omega)]
  omega
/-- a flag of the law -/
def la_fl (P : Prop) (x : Int32) : Prop := (P ∧ x = 1) ∨ (¬ P ∧ x = 0)
theorem la_fT {P : Prop} (h : P) : la_fl P 1 := Or.inl ⟨h, rfl⟩
theorem la_fF {P : Prop} (h : ¬ P) : la_fl P 0 := Or.inr ⟨h, rfl⟩
theorem la_fb {P A B : Prop} {x : Int32} (h : la_fl P x) (a : ¬ P → A) (b : P → B) : (x = 0 → A) ∧ (¬ x = 0 → B) := by
  rcases h with ⟨h, e⟩ | ⟨h, e⟩
  · subst e; exact br_f (by decide) (b h)
  · subst e; exact br_t rfl (a h)
end
section
/-! small methods: tests, sets, times -/
section
variable {dc pc ln sh nd fi : Int32} {ft : Int64} {fr : Int32} {a1 a2 a3 a4 a5 a6 a7 a8 : Nat → Int32} {a9 : Nat → Int64} {a10 : Nat → Int32} {a11 : Nat → Int64} {a12 a13 a14 a15 a16 a17 a18 a19 a20 : Nat → Int32}
theorem la_isNumT {post : Int32 → Prop} {u : St0} {x : Int32} (h : la_num x) (hp : post 1) : wpX_isNumber post u x := br_f h.1 (br_f h.2 hp)
theorem la_isNumF {post : Int32 → Prop} {u : St0} {x : Int32} (h : ¬ la_num x) (hp : post 0) : wpX_isNumber post u x := br_c (fun _ => hp) (fun a => br_c (fun _ => hp) (fun b => absurd ⟨a, b⟩ h))
theorem la_isItemT {post : Int32 → Prop} {u : St0} {x : Int32} (h : la_item x) (hp : post 1) : wpX_isItem post u x := by
  have t : la_num x → wX_isItem_10 post x := fun hn => by
    unfold wX_isItem_10
    exact la_isNumT hn (br_f (by decide) hp)
  exact br_c (fun a => t (h.resolve_left (fun w => w.1 a))) (fun a => br_c (fun _ => hp) (fun b => t (h.resolve_left (fun w => b w.2))))
theorem la_isItemF {post : Int32 → Prop} {u : St0} {x : Int32} (h : ¬ la_item x) (hp : post 0) : wpX_isItem post u x := by
  have t : wX_isItem_10 post x := by
    unfold wX_isItem_10
    exact la_isNumF (fun z => h (Or.inr z)) (br_t rfl hp)
  exact br_c (fun _ => t) (fun a => br_c (fun b => absurd (Or.inl ⟨a, b⟩) h) (fun _ => t))
/-- the law's own isItem -/
theorem la_isItemL {post : Int32 → Prop} {u : St0} {x : Int32} (hp : ∀ r, la_fl (la_item x) r → post r) : wpL_isItem post u x := by
  have t : ¬ la_word x → wL_isItem_10 post x := fun hw => br_c (fun a => hp 0 (la_fF (fun z => z.elim hw (fun n => n.1 a)))) (fun a => br_c (fun b => hp 0 (la_fF (fun z => z.elim hw (fun n => n.2 b)))) (fun b => hp 1 (la_fT (Or.inr ⟨a, b⟩))))
  exact br_c (fun a => t (fun w => w.1 a)) (fun a => br_c (fun b => hp 1 (la_fT (Or.inl ⟨a, b⟩))) (fun b => t (fun w => b w.2)))
theorem la_isPartT {post : Int32 → Prop} {u : St0} {x : Int32} (h : la_part x) (hp : post 1) : wpX_isPart post u x := by
  unfold wpX_isPart
  by_cases hi : la_item x
  · exact la_isItemT hi (br_f (by decide) hp)
  · have h' := h.resolve_left hi
    have t : ¬ (¬ x < 2000 ∧ x ≤ 2002) → wX_isPart_21 post x := fun n => br_f (h'.resolve_left n).1 (br_f (h'.resolve_left n).2 hp)
    exact la_isItemF hi (br_t rfl (br_c (fun a => t (fun z => z.1 a)) (fun _ => br_c (fun _ => hp) (fun b => t (fun z => b z.2)))))
theorem la_isPartF {post : Int32 → Prop} {u : St0} {x : Int32} (h : ¬ la_part x) (hp : post 0) : wpX_isPart post u x := by
  unfold wpX_isPart
  have t : wX_isPart_21 post x := br_c (fun _ => hp) (fun a => br_c (fun _ => hp) (fun b => absurd (Or.inr (Or.inr ⟨a, b⟩)) h))
  exact la_isItemF (fun z => h (Or.inl z)) (br_t rfl (br_c (fun _ => t) (fun a => br_c (fun b => absurd (Or.inr (Or.inl ⟨a, b⟩)) h) (fun _ => t))))
theorem la_blanked {post : Int32 → Prop} {u : St0} {x : Int32} (hp : post (la_bl x)) : wpX_blanked post u x := by
  unfold wpX_blanked
  by_cases hn : la_num x
  · rw [la_bl_num hn] at hp
    exact la_isNumT hn (br_f (by decide) hp)
  · rw [la_bl_word hn] at hp
    exact la_isNumF hn (br_t rfl hp)
theorem la_takes {post : Int32 → Prop} {u : St0} {p it bk : Int32} (hT : la_tk p it bk → post 1) (hF : ¬ la_tk p it bk → post 0) : wpX_takes post u p it bk := by
  refine br_c (fun a => hT (Or.inl a)) (fun a => br_c (fun b => br_c (fun c => ?_) (fun c => br_c (fun d => hT (Or.inr (Or.inr (Or.inl ⟨b, c, d⟩)))) (fun d => hF ?_))) (fun b => br_c (fun c => hF ?_) (fun c => hT (Or.inr (Or.inr (Or.inr ⟨b, c⟩))))))
  · by_cases hn : la_num it
    · refine la_isNumT hn (br_f (by decide) (br_c (fun d => hT (Or.inr (Or.inl ⟨b, c, hn, Or.inl d⟩))) (fun d => br_c (fun e => hF ?_) (fun e => hT (Or.inr (Or.inl ⟨b, c, hn, Or.inr e⟩))))))
      rintro (z | z | z | z)
      · exact a z
      · exact z.2.2.2.elim d (fun q => q e)
      · exact z.2.1 c
      · exact z.1 b
    · refine la_isNumF hn (br_t rfl (hF ?_))
      rintro (z | z | z | z)
      · exact a z
      · exact hn z.2.2.1
      · exact z.2.1 c
      · exact z.1 b
  · rintro (z | z | z | z)
    · exact a z
    · exact c z.2.1
    · exact d z.2.2
    · exact z.1 b
  · rintro (z | z | z | z)
    · exact a z
    · exact b z.1
    · exact b z.1
    · exact z.2 c
theorem la_isLineT {post : Int32 → Prop} {p : Int32} (h : ¬ p < 0) (h' : ¬ ln ≤ p) (hp : post 1) : wpX_isLine post (dc, pc, ln, sh, nd, fi, ft, fr, a1, a2, a3, a4, a5, a6, a7, a8, a9, a10, a11, a12, a13, a14, a15, a16, a17, a18, a19, a20) p := br_f h (br_f h' hp)
theorem la_isLineF {post : Int32 → Prop} {p : Int32} (hp : post 0) : wpX_isLine post (dc, pc, 0, sh, nd, fi, ft, fr, a1, a2, a3, a4, a5, a6, a7, a8, a9, a10, a11, a12, a13, a14, a15, a16, a17, a18, a19, a20) p := br_c (fun _ => hp) (fun a => br_t (Int32.not_lt.mp a) hp)
theorem la_onesL {post : Int32 → Prop} {s : Int64} : ∀ k i x, i + k = 60 → post (la_cnt s k i x) → wX_ones_4 post s (k + 1) x (nI i) := by
  intro k
  induction k with
  | zero => exact fun i x hi hp => pk_le 60 i (fun _ => hp) (fun z => absurd z (by omega))
  | succ k ih => exact fun i x hi hp => pk_le 60 i (fun z => absurd z (by omega)) (fun _ => nm_e (nm_r (nI_1 i) (ih (i + 1) _ (by omega) hp)))
theorem la_ones {post : Int32 → Prop} {u : St0} {s : Int64} {v : Int32} (h : la_cnt s 60 0 0 = v) (hp : post v) : wpX_ones post u s := by
  rw [← h] at hp
  exact ⟨61, la_onesL 60 0 0 rfl hp⟩
theorem la_lowL {post : Int32 → Prop} (hp : post 60) : ∀ k i, i + k = 60 → wX_lowest_2 post 0 (k + 1) (nI i) := by
  intro k
  induction k with
  | zero => exact fun i hi => pk_le 60 i (fun _ => by rw [show i = 60 by omega]; exact hp) (fun z => absurd z (by omega))
  | succ k ih => exact fun i hi => pk_le 60 i (fun z => absurd z (by omega)) (fun z => br_t (la_low0 i z) (nm_r (nI_1 i) (ih (i + 1) (by omega))))
theorem la_lowest0 {post : Int32 → Prop} {u : St0} {s : Int64} (hs : s = 0) (hp : post 60) : wpX_lowest post u s := by
  subst hs
  exact ⟨61, la_lowL hp 60 0 rfl⟩
theorem la_lowest1 {post : Int32 → Prop} {u : St0} {s : Int64} (hs : ¬ ((s >>> ((0 : Int32).toInt64 &&& 63)) &&& 1) = 0) (hp : post 0) : wpX_lowest post u s :=
  ⟨1, br_f (by decide) (br_f hs hp)⟩
theorem la_cb0 {post : Int32 → Prop} {p : Int32} (hp : post 0) : wpX_countBelow post (dc, pc, 0, sh, nd, fi, ft, fr, a1, a2, a3, a4, a5, a6, a7, a8, a9, a10, a11, a12, a13, a14, a15, a16, a17, a18, a19, a20) p := ⟨1, br_t (by decide) hp⟩
theorem la_cb1 {post : Int32 → Prop} {p tm : Int32} (h : a3 0 = tm) (hT : tm < p → post 1) (hF : ¬ tm < p → post 0) : wpX_countBelow post (dc, pc, 1, sh, nd, fi, ft, fr, a1, a2, a3, a4, a5, a6, a7, a8, a9, a10, a11, a12, a13, a14, a15, a16, a17, a18, a19, a20) p := by
  refine ⟨2, br_f (by decide) (nm_r (e' := 0) (by decide) (And.intro (pk_in 0 60 (by omega)) (br_c (fun a => br_t (by decide) (hF ?_)) (fun a => nm_r (e' := 1) (by decide) (br_t (by decide) (hT ?_))))))⟩
  · have a' : p ≤ a3 0 := a
    rw [h] at a'
    exact Int32.not_lt.mpr a'
  · have a' : ¬ p ≤ a3 0 := a
    rw [h] at a'
    exact Int32.not_le.mp a'
theorem la_cb2 {post : Int32 → Prop} {p tm : Int32} (h : a3 0 = tm) (h1 : a3 1 = tm) (hT : tm < p → post 2) (hF : ¬ tm < p → post 0) : wpX_countBelow post (dc, pc, 2, sh, nd, fi, ft, fr, a1, a2, a3, a4, a5, a6, a7, a8, a9, a10, a11, a12, a13, a14, a15, a16, a17, a18, a19, a20) p := by
  refine ⟨3, br_f (by decide) (nm_r (e' := 1) (by decide) (And.intro (pk_in 1 60 (by omega)) (br_c (fun a => br_f (by decide) (nm_r (e' := 0) (by decide) (And.intro (pk_in 0 60 (by omega)) (br_t ?_ (br_t (by decide) (hF ?_)))))) (fun a => nm_r (e' := 2) (by decide) (br_t (by decide) (hT ?_))))))⟩
  · have a' : p ≤ a3 1 := a
    rw [h1] at a'
    show p ≤ a3 0
    rw [h]
    exact a'
  · have a' : p ≤ a3 1 := a
    rw [h1] at a'
    exact Int32.not_lt.mpr a'
  · have a' : ¬ p ≤ a3 1 := a
    rw [h1] at a'
    exact Int32.not_le.mp a'
theorem la_cu0 {post : Int32 → Prop} {p : Int32} (hp : post 0) : wpX_countUpTo post (dc, pc, 0, sh, nd, fi, ft, fr, a1, a2, a3, a4, a5, a6, a7, a8, a9, a10, a11, a12, a13, a14, a15, a16, a17, a18, a19, a20) p := br_c (fun _ => la_cb0 hp) (fun _ => hp)
theorem la_cu1 {post : Int32 → Prop} {p tm : Int32} (h : a3 0 = tm) (ht : ¬ 1000 < tm) (hT : tm ≤ p → post 1) (hF : ¬ tm ≤ p → post 0) : wpX_countUpTo post (dc, pc, 1, sh, nd, fi, ft, fr, a1, a2, a3, a4, a5, a6, a7, a8, a9, a10, a11, a12, a13, a14, a15, a16, a17, a18, a19, a20) p := by
  refine br_c (fun a => la_cb1 h (fun b => hT ((la_ltS ?_).mp b)) (fun b => hF (fun z => b ((la_ltS ?_).mpr z)))) (fun a => hT ?_)
  · exact Int32.le_of_lt a
  · exact Int32.le_of_lt a
  · exact Int32.le_trans (Int32.not_lt.mp ht) (Int32.not_lt.mp a)
end
end
section
/-! reading: bytes, a line's differences, a line -/
section
variable {dc pc ln sh nd fi : Int32} {ft : Int64} {fr : Int32} {a1 a2 a3 a4 a5 a6 a7 a8 : Nat → Int32} {a9 : Nat → Int64} {a10 : Nat → Int32} {a11 : Nat → Int64} {a12 a13 a14 a15 a16 a17 a18 a19 a20 : Nat → Int32}
theorem la_take63 {post : Int32 → St2 → Prop} {x v : Int32} (h : la_z x = v) (hp : post v (dc, pc, ln, sh, nd, fi, ft, fr, a1, a2, a3, a4, a5, a6, a7, a8, a9, a10, a11, a12, a13, a14, a15, a16, a17, a18, a19, a20)) : wX_takeNumber_63 post x dc pc ln sh nd fi ft fr a1 a2 a3 a4 a5 a6 a7 a8 a9 a10 a11 a12 a13 a14 a15 a16 a17 a18 a19 a20 := by
  subst h
  unfold la_z at hp
  refine br_c (fun a => ?_) (fun a => ?_)
  · rw [if_pos a] at hp
    exact hp
  · rw [if_neg a] at hp
    exact hp
theorem la_take {post : Int32 → St2 → Prop} {v : Int32} (h : la_dec a6 fr v) (hp : ∀ fr', post v (dc, pc, ln, sh, nd, fi, ft, fr', a1, a2, a3, a4, a5, a6, a7, a8, a9, a10, a11, a12, a13, a14, a15, a16, a17, a18, a19, a20)) : wpX_takeNumber post (dc, pc, ln, sh, nd, fi, ft, fr, a1, a2, a3, a4, a5, a6, a7, a8, a9, a10, a11, a12, a13, a14, a15, a16, a17, a18, a19, a20) := by
  obtain ⟨k, k', e, hk, hd⟩ := h
  subst e
  have hc : (nI k).toNatClampNeg = k := nI_clamp (by omega)
  have hc1 : (nI (k + 1)).toNatClampNeg = k + 1 := nI_clamp (by omega)
  refine And.intro (pk_in k 960 (by omega)) (nm_r (e' := a6 k &&& 255) (by rw [hc]) (nm_r (nI_1 k) ?_))
  rcases hd with ⟨_, h2, h3⟩ | ⟨_, h2, h3⟩
  · exact br_t h2 (la_take63 h3 (hp _))
  · refine br_f h2 (And.intro (pk_in (k + 1) 960 (by omega)) (nm_r (e' := ((a6 k &&& 255) &&& 127) ||| ((a6 (k + 1) &&& 255) <<< ((7 : Int32) &&& 31))) (by rw [hc1]) (nm_e ?_)))
    exact la_take63 h3 (hp _)
theorem la_add {post : St2 → Prop} {bl v l : Int32} {j : Nat} (hj : j < 60) (hl : l = nI j) (h7 : a7 0 = 1) (h8 : a8 0 = bl) (hd : bl = 1000 → la_dec a6 (a5 j) v) (hp : ∀ fr' nu, (bl = 1000 → nu 0 = a17 0 + v) → post (dc, pc, ln, sh, nd, fi, ft, fr', a1, a2, a3, a4, a5, a6, a7, a8, a9, a10, a11, a12, a13, a14, a15, a16, nu, a18, a19, a20)) : wpX_addLine post (dc, pc, ln, sh, nd, fi, ft, fr, a1, a2, a3, a4, a5, a6, a7, a8, a9, a10, a11, a12, a13, a14, a15, a16, a17, a18, a19, a20) l 0 := by
  subst hl
  have tail : ∀ fr' nu, (bl = 1000 → nu 0 = a17 0 + v) → wX_addLine_12 post 0 1 1 dc pc ln sh nd fi ft fr' a1 a2 a3 a4 a5 a6 a7 a8 a9 a10 a11 a12 a13 a14 a15 a16 nu a18 a19 a20 := fun fr' nu hn =>
    And.intro (pk_in 0 60 (by omega)) (br_t (by show a7 0 ≤ 1; rw [h7]; decide) (hp fr' nu hn))
  refine And.intro (pk_in j 61 (by omega)) (nm_r (e' := a5 j) (by rw [nI_clamp (by omega)]) ⟨2, And.intro (pk_in 0 60 (by omega)) (br_f (by show ¬ a7 0 ≤ 0; rw [h7]; decide) (And.intro (pk_in 0 480 (by omega)) (br_c (fun e => And.intro (pk_in 0 8 (by omega)) ?_) (fun e => nm_r (e' := 1) (by decide) (tail _ _ ?_)))))⟩)
  · have e' : bl = 1000 := by rw [← h8]; exact e
    exact la_take (hd e') (fun fr' => And.intro (pk_in 0 8 (by omega)) (nm_e (nm_r (e' := 1) (by decide) (tail fr' _ (fun _ => by show upd a17 0 (a17 0 + v) 0 = a17 0 + v; rw [pk_us])))))
  · intro z
    rw [← h8] at z
    exact absurd z e
theorem la_clearL {post : St2 → Prop} (hp : ∀ nu, (∀ j, j < 8 → nu j = 0) → post (dc, pc, ln, sh, nd, fi, ft, fr, a1, a2, a3, a4, a5, a6, a7, a8, a9, a10, a11, a12, a13, a14, a15, a16, nu, a18, a19, a20)) : ∀ k i nu, i + k = 8 → (∀ j, j < i → nu j = 0) → wX_clearNumbers_2 post dc pc ln sh nd fi ft fr (k + 1) (nI i) a1 a2 a3 a4 a5 a6 a7 a8 a9 a10 a11 a12 a13 a14 a15 a16 nu a18 a19 a20 := by
  intro k
  induction k with
  | zero => exact fun i nu hi h => pk_le 8 i (fun _ => hp nu (fun j hj => h j (by omega))) (fun z => absurd z (by omega))
  | succ k ih =>
    intro i nu hi h
    refine pk_le 8 i (fun z => absurd z (by omega)) (fun _ => And.intro (pk_in i 8 (by omega)) (nm_e (nm_r (nI_1 i) (ih (i + 1) _ (by omega) (fun j hj => ?_)))))
    rw [nI_clamp (show i < 2 ^ 31 by omega)]
    by_cases e : j = i
    · rw [e, pk_us]
    · rw [pk_un e]
      exact h j (by omega)
theorem la_clear {post : St2 → Prop} (hp : ∀ nu, (∀ j, j < 8 → nu j = 0) → post (dc, pc, ln, sh, nd, fi, ft, fr, a1, a2, a3, a4, a5, a6, a7, a8, a9, a10, a11, a12, a13, a14, a15, a16, nu, a18, a19, a20)) : wpX_clearNumbers post (dc, pc, ln, sh, nd, fi, ft, fr, a1, a2, a3, a4, a5, a6, a7, a8, a9, a10, a11, a12, a13, a14, a15, a16, a17, a18, a19, a20) :=
  ⟨9, la_clearL hp 8 0 a17 rfl (fun j hj => absurd hj (by omega))⟩
theorem la_read9 {post : St2 → Prop} {x1 x2 : Int32} (hp : ∀ nu, (∀ j, j < 8 → nu j = 0) → ∃ fu, wX_readLine_30 post x1 x2 fu 0 dc pc ln sh nd fi ft fr a1 a2 a3 a4 a5 a6 a7 a8 a9 a10 a11 a12 a13 a14 a15 a16 nu a18 a19 a20) : ∀ k i nu, i + k = 8 → (∀ j, j < i → nu j = 0) → wX_readLine_9 post x1 x2 dc pc ln sh nd fi ft fr (k + 1) (nI i) a1 a2 a3 a4 a5 a6 a7 a8 a9 a10 a11 a12 a13 a14 a15 a16 nu a18 a19 a20 := by
  intro k
  induction k with
  | zero => exact fun i nu hi h => pk_le 8 i (fun _ => hp nu (fun j hj => h j (by omega))) (fun z => absurd z (by omega))
  | succ k ih =>
    intro i nu hi h
    refine pk_le 8 i (fun z => absurd z (by omega)) (fun _ => And.intro (pk_in i 8 (by omega)) (nm_e (nm_r (nI_1 i) (ih (i + 1) _ (by omega) (fun j hj => ?_)))))
    rw [nI_clamp (show i < 2 ^ 31 by omega)]
    by_cases e : j = i
    · rw [e, pk_us]
    · rw [pk_un e]
      exact h j (by omega)
theorem la_read59 {post : St2 → Prop} {it : Int32} (h7 : a7 0 = 1) (h8 : a8 0 = la_bl it) (hn : la_num it → a17 0 = it - 1000) (hp : ∀ re, re 0 = it → post (dc, pc, ln, sh, nd, fi, ft, fr, a1, a2, a3, a4, a5, a6, a7, a8, a9, a10, a11, a12, a13, a14, a15, re, a17, a18, a19, a20)) : ∃ fu, wX_readLine_59 post 0 dc pc ln sh nd fi ft fr fu 0 a1 a2 a3 a4 a5 a6 a7 a8 a9 a10 a11 a12 a13 a14 a15 a16 a17 a18 a19 a20 := by
  have tail : ∀ re, re 0 = it → wX_readLine_59 post 0 dc pc ln sh nd fi ft fr 1 1 a1 a2 a3 a4 a5 a6 a7 a8 a9 a10 a11 a12 a13 a14 a15 re a17 a18 a19 a20 := fun re hr =>
    And.intro (pk_in 0 60 (by omega)) (br_t (by show a7 0 ≤ 1; rw [h7]; decide) (hp re hr))
  refine ⟨2, And.intro (pk_in 0 60 (by omega)) (br_f (by show ¬ a7 0 ≤ 0; rw [h7]; decide) (And.intro (pk_in 0 480 (by omega)) (nm_r (e' := la_bl it) h8 (br_c (fun e => And.intro (pk_in 0 8 (by omega)) (And.intro (pk_in 0 8 (by omega)) (nm_e (nm_r (e' := 1) (by decide) (tail _ ?_))))) (fun e => And.intro (pk_in 0 8 (by omega)) (nm_e (nm_r (e' := 1) (by decide) (tail _ ?_))))))))⟩
  · show upd a16 0 (1000 + a17 0) 0 = it
    rw [pk_us, hn (la_bl_eq.mp e), la_back]
  · show upd a16 0 (la_bl it) 0 = it
    rw [pk_us, la_bl_word (fun z => e (la_bl_eq.mpr z))]
/-- the picture of n lines, all of them the one item at the one time -/
def la_P (n : Nat) (it tm : Int32) (a3 a4 a5 a6 a7 a8 : Nat → Int32) (a9 : Nat → Int64) : Prop :=
  (∀ l, l < n → a3 l = tm) ∧ (∀ l, l < n → a4 l = 0) ∧ a7 0 = 1 ∧ a8 0 = la_bl it ∧ a9 0 = la_full n ∧ (la_num it → ∀ l, l < n → la_dec a6 (a5 l) (if l = 0 then it - 1000 else 0))
theorem la_read {post : St2 → Prop} {it tm : Int32} (P : la_P 1 it tm a3 a4 a5 a6 a7 a8 a9) (hp : ∀ fr' re nu, re 0 = it → post (dc, pc, ln, sh, nd, fi, ft, fr', a1, a2, a3, a4, a5, a6, a7, a8, a9, a10, a11, a12, a13, a14, a15, re, nu, a18, a19, a20)) : wpX_readLine post (dc, pc, ln, sh, nd, fi, ft, fr, a1, a2, a3, a4, a5, a6, a7, a8, a9, a10, a11, a12, a13, a14, a15, a16, a17, a18, a19, a20) 0 := by
  obtain ⟨p3, p4, p7, p8, p9, pd⟩ := P
  refine And.intro (pk_in 0 60 (by omega)) (nm_r (e' := 0) (p4 0 (by omega)) ⟨9, la_read9 (fun nu hnu => ⟨2, br_f (by decide) (And.intro (pk_in 0 60 (by omega)) (br_t (p4 0 (by omega)) ?_))⟩) 8 0 a17 rfl (fun j hj => absurd hj (by omega))⟩)
  refine la_add (j := 0) (v := it - 1000) (by omega) rfl p7 p8 (fun e => pd (la_bl_eq.mp e) 0 (by omega)) (fun fr' nu' hn => nm_r (e' := 1) (by decide) (br_t (by decide) (la_read59 p7 p8 (fun z => ?_) (fun re hr => hp fr' re nu' hr))))
  rw [hn (la_bl_eq.mpr z), hnu 0 (by omega)]
  grind
end
end
section
/-! questions over no line, and over one -/
section
variable {dc pc ln sh nd fi : Int32} {ft : Int64} {fr : Int32} {a1 a2 a3 a4 a5 a6 a7 a8 : Nat → Int32} {a9 : Nat → Int64} {a10 : Nat → Int32} {a11 : Nat → Int64} {a12 a13 a14 a15 a16 a17 a18 a19 a20 : Nat → Int32}
theorem lz_recall {post : Int32 → St2 → Prop} {p : Int32} (hp : post (-1) (dc, pc, 0, sh, nd, fi, ft, fr, a1, a2, a3, a4, a5, a6, a7, a8, a9, a10, a11, a12, a13, a14, a15, a16, a17, a18, a19, a20)) : wpX_recall post (dc, pc, 0, sh, nd, fi, ft, fr, a1, a2, a3, a4, a5, a6, a7, a8, a9, a10, a11, a12, a13, a14, a15, a16, a17, a18, a19, a20) p := by
  unfold wpX_recall
  exact la_isLineF (br_t rfl hp)
theorem la_expire0 {post : Int32 → St2 → Prop} {p : Int32} (h : ∀ Q : Int32 → Prop, Q 0 → wpX_countBelow Q (dc, pc, ln, sh, nd, fi, ft, fr, a1, a2, a3, a4, a5, a6, a7, a8, a9, a10, a11, a12, a13, a14, a15, a16, a17, a18, a19, a20) p) (hp : post 0 (dc, pc, ln, sh, nd, fi, ft, fr, a1, a2, a3, a4, a5, a6, a7, a8, a9, a10, a11, a12, a13, a14, a15, a16, a17, a18, a19, a20)) : wpX_expire post (dc, pc, ln, sh, nd, fi, ft, fr, a1, a2, a3, a4, a5, a6, a7, a8, a9, a10, a11, a12, a13, a14, a15, a16, a17, a18, a19, a20) p := by
  unfold wpX_expire
  exact h _ (br_t rfl hp)
theorem lz_time {post : Int32 → Prop} {p : Int32} (hp : post (-1)) : wpX_time post (dc, pc, 0, sh, nd, fi, ft, fr, a1, a2, a3, a4, a5, a6, a7, a8, a9, a10, a11, a12, a13, a14, a15, a16, a17, a18, a19, a20) p := by
  unfold wpX_time
  exact la_isLineF (br_t rfl hp)
theorem lz_length {post : Int32 → Prop} {p : Int32} (hp : post (-1)) : wpX_length post (dc, pc, 0, sh, nd, fi, ft, fr, a1, a2, a3, a4, a5, a6, a7, a8, a9, a10, a11, a12, a13, a14, a15, a16, a17, a18, a19, a20) p := by
  unfold wpX_length
  exact la_isLineF (br_t rfl hp)
theorem lz_at {post : Int32 → St2 → Prop} {p q : Int32} (hp : post (-1) (dc, pc, 0, sh, nd, fi, ft, fr, a1, a2, a3, a4, a5, a6, a7, a8, a9, a10, a11, a12, a13, a14, a15, a16, a17, a18, a19, a20)) : wpX_at post (dc, pc, 0, sh, nd, fi, ft, fr, a1, a2, a3, a4, a5, a6, a7, a8, a9, a10, a11, a12, a13, a14, a15, a16, a17, a18, a19, a20) p q := by
  unfold wpX_at
  exact la_isLineF (br_t rfl hp)
theorem lz_group {post : Int32 → Prop} {p : Int32} (hp : post (-1)) : wpX_group post (dc, pc, 0, sh, nd, fi, ft, fr, a1, a2, a3, a4, a5, a6, a7, a8, a9, a10, a11, a12, a13, a14, a15, a16, a17, a18, a19, a20) p := by
  unfold wpX_group
  exact la_isLineF (br_t rfl hp)
theorem lz_members {post : Int32 → Prop} {p : Int32} (hp : post (-1)) : wpX_members post (dc, pc, 0, sh, nd, fi, ft, fr, a1, a2, a3, a4, a5, a6, a7, a8, a9, a10, a11, a12, a13, a14, a15, a16, a17, a18, a19, a20) p := by
  unfold wpX_members
  exact la_isLineF (br_t rfl hp)
theorem lz_largest {post : Int32 → Prop} {p : Int32} (hp : post (-2)) : wpX_largest post (dc, pc, ln, 0, nd, fi, ft, fr, a1, a2, a3, a4, a5, a6, a7, a8, a9, a10, a11, a12, a13, a14, a15, a16, a17, a18, a19, a20) p := ⟨1, br_t (by decide) hp⟩
theorem lz_column {post : Int32 → St2 → Prop} {p q r : Int32} (hp : post (-1) (dc, pc, 0, sh, nd, fi, ft, fr, a1, a2, a3, a4, a5, a6, a7, a8, a9, a10, a11, a12, a13, a14, a15, a16, a17, a18, a19, a20)) : wpX_column post (dc, pc, 0, sh, nd, fi, ft, fr, a1, a2, a3, a4, a5, a6, a7, a8, a9, a10, a11, a12, a13, a14, a15, a16, a17, a18, a19, a20) p q r := by
  unfold wpX_column
  exact la_isLineF (br_t rfl hp)
theorem lz_having {post : Int32 → St2 → Prop} {p : Int32} (h11 : ∀ w, w < 24 → a11 w = 0) (hT : la_item p → post 0 (dc, pc, ln, 0, nd, fi, ft, fr, a1, a2, a3, a4, a5, a6, a7, a8, a9, a10, a11, a12, a13, a14, a15, a16, a17, a18, a19, a20)) (hF : ¬ la_item p → post (-1) (dc, pc, ln, 0, nd, fi, ft, fr, a1, a2, a3, a4, a5, a6, a7, a8, a9, a10, a11, a12, a13, a14, a15, a16, a17, a18, a19, a20)) : wpX_having post (dc, pc, ln, 0, nd, fi, ft, fr, a1, a2, a3, a4, a5, a6, a7, a8, a9, a10, a11, a12, a13, a14, a15, a16, a17, a18, a19, a20) p := by
  unfold wpX_having
  by_cases hi : la_item p
  · refine la_isItemT hi (br_f (by decide) ?_)
    by_cases hn : la_num p
    · exact la_isNumT hn (br_f (by decide) ⟨1, br_t (by decide) (hT hi)⟩)
    · obtain ⟨k, hk, e⟩ := la_wk (la_iw hi hn)
      refine la_isNumF hn (br_t rfl (And.intro (pk_in k 24 hk e) (la_ones (v := 0) ?_ (hT hi))))
      rw [e, nI_clamp (by omega), h11 k hk]
      exact la_cnt0
  · exact la_isItemF hi (br_t rfl (hF hi))
theorem lz_fit {post : St2 → Prop} (hp : post (dc, 0, ln, 0, nd, 1, 0, fr, a1, a2, a3, a4, a5, a6, a7, a8, a9, a10, a11, a12, a13, a14, a15, a16, a17, a18, a19, a20)) : wpX_fit post (dc, 0, ln, 0, nd, 0, ft, fr, a1, a2, a3, a4, a5, a6, a7, a8, a9, a10, a11, a12, a13, a14, a15, a16, a17, a18, a19, a20) :=
  br_t rfl ⟨1, br_t (by decide) (br_t rfl ⟨1, br_t (by decide) hp⟩)⟩
theorem la_fitting {post : Int32 → St2 → Prop} {F : Int64} {p q b e r : Int32} (hf : ∀ Q : St2 → Prop, (∀ fr' nu, Q (dc, pc, ln, sh, nd, 1, F, fr', a1, a2, a3, a4, a5, a6, a7, a8, a9, a10, a11, a12, a13, a14, a15, a16, nu, a18, a19, a20)) → wpX_fit Q (dc, pc, ln, sh, nd, fi, ft, fr, a1, a2, a3, a4, a5, a6, a7, a8, a9, a10, a11, a12, a13, a14, a15, a16, a17, a18, a19, a20))
    (hb : ∀ fr' nu (Q : Int32 → Prop), Q b → wpX_countBelow Q (dc, pc, ln, sh, nd, 1, F, fr', a1, a2, a3, a4, a5, a6, a7, a8, a9, a10, a11, a12, a13, a14, a15, a16, nu, a18, a19, a20) p)
    (he : ∀ fr' nu (Q : Int32 → Prop), Q e → wpX_countUpTo Q (dc, pc, ln, sh, nd, 1, F, fr', a1, a2, a3, a4, a5, a6, a7, a8, a9, a10, a11, a12, a13, a14, a15, a16, nu, a18, a19, a20) q)
    (hr : (e ≤ b ∧ r = 0) ∨ (¬ e ≤ b ∧ la_cnt ((F &&& (((1 : Int64) <<< (e.toInt64 &&& 63)) - 1)) &&& ((((1 : Int64) <<< (b.toInt64 &&& 63)) - 1) ^^^ (-1))) 60 0 0 = r))
    (hp : ∀ fr' nu, post r (dc, pc, ln, sh, nd, 1, F, fr', a1, a2, a3, a4, a5, a6, a7, a8, a9, a10, a11, a12, a13, a14, a15, a16, nu, a18, a19, a20)) : wpX_fitting post (dc, pc, ln, sh, nd, fi, ft, fr, a1, a2, a3, a4, a5, a6, a7, a8, a9, a10, a11, a12, a13, a14, a15, a16, a17, a18, a19, a20) p q := by
  unfold wpX_fitting
  refine hf _ (fun fr' nu => hb fr' nu _ (he fr' nu _ ?_))
  rcases hr with ⟨h1, h2⟩ | ⟨h1, h2⟩
  · subst h2
    exact br_t h1 (hp fr' nu)
  · exact br_f h1 (la_ones (u := ()) h2 (hp fr' nu))
def la_nz (p z : Int32) : Prop := (0 ≤ p ∧ p < 60 ∧ z = p + 1) ∨ (0 ≤ p ∧ ¬ p < 60 ∧ z = 60) ∨ (¬ 0 ≤ p ∧ z = 0)
theorem la_next {post : Int32 → St2 → Prop} {F : Int64} {p : Int32} (hf : ∀ Q : St2 → Prop, (∀ fr' nu, Q (dc, pc, ln, sh, nd, 1, F, fr', a1, a2, a3, a4, a5, a6, a7, a8, a9, a10, a11, a12, a13, a14, a15, a16, nu, a18, a19, a20)) → wpX_fit Q (dc, pc, ln, sh, nd, fi, ft, fr, a1, a2, a3, a4, a5, a6, a7, a8, a9, a10, a11, a12, a13, a14, a15, a16, a17, a18, a19, a20))
    (h : ∀ z fr' nu, la_nz p z → wX_next_26 post z dc pc ln sh nd 1 F fr' a1 a2 a3 a4 a5 a6 a7 a8 a9 a10 a11 a12 a13 a14 a15 a16 nu a18 a19 a20) : wpX_next post (dc, pc, ln, sh, nd, fi, ft, fr, a1, a2, a3, a4, a5, a6, a7, a8, a9, a10, a11, a12, a13, a14, a15, a16, a17, a18, a19, a20) p := by
  unfold wpX_next
  exact hf _ (fun fr' nu => br_c (fun a => br_c (fun b => h _ fr' nu (Or.inl ⟨a, b, rfl⟩)) (fun b => h _ fr' nu (Or.inr (Or.inl ⟨a, b, rfl⟩)))) (fun a => h _ fr' nu (Or.inr (Or.inr ⟨a, rfl⟩))))
theorem la_nxN {post : Int32 → St2 → Prop} {z : Int32} (hs : ft &&& ((((1 : Int64) <<< (z.toInt64 &&& 63)) - 1) ^^^ (-1)) = 0) (hl : ln ≤ 60) (hp : post (-2) (dc, pc, ln, sh, nd, fi, ft, fr, a1, a2, a3, a4, a5, a6, a7, a8, a9, a10, a11, a12, a13, a14, a15, a16, a17, a18, a19, a20)) : wX_next_26 post z dc pc ln sh nd fi ft fr a1 a2 a3 a4 a5 a6 a7 a8 a9 a10 a11 a12 a13 a14 a15 a16 a17 a18 a19 a20 := by
  unfold wX_next_26 wpX_below
  exact la_lowest0 hs (br_t hl hp)
theorem la_nx0 {post : Int32 → St2 → Prop} (hp : post 0 (dc, pc, 1, sh, nd, fi, 1, fr, a1, a2, a3, a4, a5, a6, a7, a8, a9, a10, a11, a12, a13, a14, a15, a16, a17, a18, a19, a20)) : wX_next_26 post 0 dc pc 1 sh nd fi 1 fr a1 a2 a3 a4 a5 a6 a7 a8 a9 a10 a11 a12 a13 a14 a15 a16 a17 a18 a19 a20 := by
  unfold wX_next_26 wpX_below
  exact la_lowest1 (by decide) (br_f (by decide) hp)
theorem lz_fgroups {post : Int32 → St2 → Prop} {F : Int64} (hf : ∀ Q : St2 → Prop, (∀ fr' nu, Q (dc, pc, ln, 0, nd, 1, F, fr', a1, a2, a3, a4, a5, a6, a7, a8, a9, a10, a11, a12, a13, a14, a15, a16, nu, a18, a19, a20)) → wpX_fit Q (dc, pc, ln, 0, nd, fi, ft, fr, a1, a2, a3, a4, a5, a6, a7, a8, a9, a10, a11, a12, a13, a14, a15, a16, a17, a18, a19, a20)) (hp : ∀ fr' nu, post 0 (dc, pc, ln, 0, nd, 1, F, fr', a1, a2, a3, a4, a5, a6, a7, a8, a9, a10, a11, a12, a13, a14, a15, a16, nu, a18, a19, a20)) : wpX_fittingGroups post (dc, pc, ln, 0, nd, fi, ft, fr, a1, a2, a3, a4, a5, a6, a7, a8, a9, a10, a11, a12, a13, a14, a15, a16, a17, a18, a19, a20) := by
  unfold wpX_fittingGroups
  exact hf _ (fun fr' nu => ⟨1, br_t (by decide) (hp fr' nu)⟩)
theorem lo_fgroups {post : Int32 → St2 → Prop} {F : Int64} (h9 : a9 0 = 1) (hf : ∀ Q : St2 → Prop, (∀ fr' nu, Q (dc, pc, ln, 1, nd, 1, F, fr', a1, a2, a3, a4, a5, a6, a7, a8, a9, a10, a11, a12, a13, a14, a15, a16, nu, a18, a19, a20)) → wpX_fit Q (dc, pc, ln, 1, nd, fi, ft, fr, a1, a2, a3, a4, a5, a6, a7, a8, a9, a10, a11, a12, a13, a14, a15, a16, a17, a18, a19, a20)) (hF : F = 0 ∨ F = 1) (hp : ∀ r fr' nu, (F = 0 → r = 0) → (F = 1 → r = 1) → post r (dc, pc, ln, 1, nd, 1, F, fr', a1, a2, a3, a4, a5, a6, a7, a8, a9, a10, a11, a12, a13, a14, a15, a16, nu, a18, a19, a20)) : wpX_fittingGroups post (dc, pc, ln, 1, nd, fi, ft, fr, a1, a2, a3, a4, a5, a6, a7, a8, a9, a10, a11, a12, a13, a14, a15, a16, a17, a18, a19, a20) := by
  unfold wpX_fittingGroups
  refine hf _ (fun fr' nu => ⟨2, br_f (by decide) (And.intro (pk_in 0 60 (by omega)) ?_)⟩)
  rcases hF with e | e
  · refine br_t (by rw [e]; exact Int64.zero_and) (nm_e (nm_r (e' := 1) (by decide) (br_t (by decide) (hp _ fr' nu (fun _ => by decide) (fun z => ?_)))))
    rw [e] at z
    exact absurd z (by decide)
  · refine br_f (by show ¬ (F &&& a9 0) = 0; rw [e, h9]; decide) (nm_e (nm_r (e' := 1) (by decide) (br_t (by decide) (hp _ fr' nu (fun z => ?_) (fun _ => by decide)))))
    rw [e] at z
    exact absurd z (by decide)
theorem lz_between {post : Int32 → Prop} {p q : Int32} (hp : post 0) : wpX_between post (dc, pc, 0, sh, nd, fi, ft, fr, a1, a2, a3, a4, a5, a6, a7, a8, a9, a10, a11, a12, a13, a14, a15, a16, a17, a18, a19, a20) p q := by
  unfold wpX_between
  exact la_cb0 (la_cu0 (br_t (by decide) hp))
theorem lo_between {post : Int32 → Prop} {q tm : Int32} (h : a3 0 = tm) (ht : ¬ 1000 < tm) (hT : tm ≤ q → post 1) (hF : ¬ tm ≤ q → post 0) : wpX_between post (dc, pc, 1, sh, nd, fi, ft, fr, a1, a2, a3, a4, a5, a6, a7, a8, a9, a10, a11, a12, a13, a14, a15, a16, a17, a18, a19, a20) tm q := by
  unfold wpX_between
  exact la_cb1 h (fun z => absurd z Int32.lt_irrefl) (fun _ => la_cu1 h ht (fun a => br_f (by decide) (hT a)) (fun a => br_t (by decide) (hF a)))
theorem lz_burst {post : Int32 → Prop} {p : Int32} (hT : 1 ≤ p → post 0) (hF : ¬ 1 ≤ p → post (-1)) : wpX_burst post (dc, pc, 0, sh, nd, fi, ft, fr, a1, a2, a3, a4, a5, a6, a7, a8, a9, a10, a11, a12, a13, a14, a15, a16, a17, a18, a19, a20) p := br_c (fun a => ⟨1, br_t (by decide) (hT a)⟩) hF
theorem lo_burst {post : Int32 → Prop} {p : Int32} (hT : 1 ≤ p → post 1) (hF : ¬ 1 ≤ p → post (-1)) : wpX_burst post (dc, pc, 1, sh, nd, fi, ft, fr, a1, a2, a3, a4, a5, a6, a7, a8, a9, a10, a11, a12, a13, a14, a15, a16, a17, a18, a19, a20) p := by
  refine br_c (fun a => ⟨2, br_f (by decide) ⟨2, br_f (by decide) (And.intro (pk_in 0 60 (by omega)) (And.intro (pk_in 0 60 (by omega)) (br_f ?_ (nm_r (e' := 1) (by decide) (br_t (by decide) (br_f (by decide) (nm_r (e' := 1) (by decide) (nm_r (e' := 1) (by decide) (br_t (by decide) (hT a)))))))))) ⟩⟩) hF
  rw [Int32.sub_self]
  intro z
  exact absurd (Int32.le_trans a z) (by decide)
theorem lz_digest {post : Int32 → St2 → Prop} (hp : post 0 (dc, pc, 0, sh, nd, fi, ft, fr, a1, a2, a3, a4, a5, a6, a7, a8, a9, a10, a11, a12, a13, a14, a15, a16, a17, a18, a19, a20)) : wpX_digest post (dc, pc, 0, sh, nd, fi, ft, fr, a1, a2, a3, a4, a5, a6, a7, a8, a9, a10, a11, a12, a13, a14, a15, a16, a17, a18, a19, a20) := ⟨1, br_t (by decide) hp⟩
theorem lo_digest {post : Int32 → St2 → Prop} {it tm : Int32} (P : la_P 1 it tm a3 a4 a5 a6 a7 a8 a9) (hp : ∀ fr' re nu, post (tm + (3 * it)) (dc, pc, 1, sh, nd, fi, ft, fr', a1, a2, a3, a4, a5, a6, a7, a8, a9, a10, a11, a12, a13, a14, a15, re, nu, a18, a19, a20)) : wpX_digest post (dc, pc, 1, sh, nd, fi, ft, fr, a1, a2, a3, a4, a5, a6, a7, a8, a9, a10, a11, a12, a13, a14, a15, a16, a17, a18, a19, a20) := by
  have p3 : a3 0 = tm := P.1 0 (by omega)
  have p4 : a4 0 = 0 := P.2.1 0 (by omega)
  have p7 : a7 (a4 0).toNatClampNeg = 1 := by rw [p4]; exact P.2.2.1
  have p4i : vp_in (a4 0) 60 := by rw [p4]; exact pk_in 0 60 (by omega)
  refine ⟨2, br_f (by decide) (la_read P (fun fr' re nu hr => And.intro (pk_in 0 60 (by omega)) (nm_r (e' := tm) p3 ⟨2, And.intro (pk_in 0 60 (by omega)) (And.intro p4i (br_f ?_ (And.intro (pk_in 0 8 (by omega)) (nm_r (e' := tm + 3 * it) ?_ (nm_r (e' := 1) (by decide) (And.intro (pk_in 0 60 (by omega)) (And.intro p4i (br_t ?_ (nm_r (e' := tm + 3 * it) ?_ (nm_r (e' := 1) (by decide) (br_t (by decide) (hp fr' re nu)))))))))))) ⟩)))⟩
  · show ¬ a7 (a4 0).toNatClampNeg ≤ 0
    rw [p7]
    decide
  · show tm + (0 + 3) * re 0 = tm + 3 * it
    rw [hr]
    rfl
  · show a7 (a4 0).toNatClampNeg ≤ 1
    rw [p7]
    decide
  · grind
theorem la_itemT {post : Int32 → St2 → Prop} {x : Int32} {k : Nat} (hk : k < 8) (h : la_item x) (hp : ∀ a1', a1' k = x → post (nI (k + 1)) ((nI (k + 1)), pc, ln, sh, nd, fi, ft, fr, a1', a2, a3, a4, a5, a6, a7, a8, a9, a10, a11, a12, a13, a14, a15, a16, a17, a18, a19, a20)) : wpX_item post ((nI k), pc, ln, sh, nd, fi, ft, fr, a1, a2, a3, a4, a5, a6, a7, a8, a9, a10, a11, a12, a13, a14, a15, a16, a17, a18, a19, a20) x := by
  unfold wpX_item
  refine la_isItemT h (br_f (by decide) (pk_lt k 8 (fun _ => And.intro (pk_in k 8 hk) (nm_e (nm_r (nI_1 k) ?_))) (fun z => absurd z (by omega))))
  refine hp _ ?_
  rw [nI_clamp (show k < 2 ^ 31 by omega), pk_us]
theorem la_itemF {post : Int32 → St2 → Prop} {x : Int32} (h : ¬ la_item x) (hp : post (-1) (dc, pc, ln, sh, nd, fi, ft, fr, a1, a2, a3, a4, a5, a6, a7, a8, a9, a10, a11, a12, a13, a14, a15, a16, a17, a18, a19, a20)) : wpX_item post (dc, pc, ln, sh, nd, fi, ft, fr, a1, a2, a3, a4, a5, a6, a7, a8, a9, a10, a11, a12, a13, a14, a15, a16, a17, a18, a19, a20) x := by
  unfold wpX_item
  exact la_isItemF h (br_t rfl hp)
theorem la_item8 {post : Int32 → St2 → Prop} {x : Int32} (h : la_item x) (hp : post (-3) (8, pc, ln, sh, nd, fi, ft, fr, a1, a2, a3, a4, a5, a6, a7, a8, a9, a10, a11, a12, a13, a14, a15, a16, a17, a18, a19, a20)) : wpX_item post (8, pc, ln, sh, nd, fi, ft, fr, a1, a2, a3, a4, a5, a6, a7, a8, a9, a10, a11, a12, a13, a14, a15, a16, a17, a18, a19, a20) x := by
  unfold wpX_item
  exact la_isItemT h (br_f (by decide) (br_f (by decide) hp))
theorem la_partT {post : Int32 → St2 → Prop} {x : Int32} {k : Nat} (hk : k < 8) (h : la_part x) (hp : ∀ a2', a2' k = x → (∀ j, j < k → a2' j = a2 j) → post (nI (k + 1)) (dc, (nI (k + 1)), ln, sh, nd, 0, ft, fr, a1, a2', a3, a4, a5, a6, a7, a8, a9, a10, a11, a12, a13, a14, a15, a16, a17, a18, a19, a20)) : wpX_part post (dc, (nI k), ln, sh, nd, fi, ft, fr, a1, a2, a3, a4, a5, a6, a7, a8, a9, a10, a11, a12, a13, a14, a15, a16, a17, a18, a19, a20) x := by
  unfold wpX_part
  refine la_isPartT h (br_f (by decide) (pk_lt k 8 (fun _ => And.intro (pk_in k 8 hk) (nm_e (nm_r (nI_1 k) ?_))) (fun z => absurd z (by omega))))
  refine hp _ ?_ (fun j hj => ?_)
  · rw [nI_clamp (show k < 2 ^ 31 by omega), pk_us]
  · rw [nI_clamp (show k < 2 ^ 31 by omega), pk_un (by omega)]
theorem la_partF {post : Int32 → St2 → Prop} {x : Int32} (h : ¬ la_part x) (hp : post (-1) (dc, pc, ln, sh, nd, fi, ft, fr, a1, a2, a3, a4, a5, a6, a7, a8, a9, a10, a11, a12, a13, a14, a15, a16, a17, a18, a19, a20)) : wpX_part post (dc, pc, ln, sh, nd, fi, ft, fr, a1, a2, a3, a4, a5, a6, a7, a8, a9, a10, a11, a12, a13, a14, a15, a16, a17, a18, a19, a20) x := by
  unfold wpX_part
  exact la_isPartF h (br_t rfl hp)
theorem la_part8 {post : Int32 → St2 → Prop} {x : Int32} (h : la_part x) (hp : post (-3) (dc, 8, ln, sh, nd, fi, ft, fr, a1, a2, a3, a4, a5, a6, a7, a8, a9, a10, a11, a12, a13, a14, a15, a16, a17, a18, a19, a20)) : wpX_part post (dc, 8, ln, sh, nd, fi, ft, fr, a1, a2, a3, a4, a5, a6, a7, a8, a9, a10, a11, a12, a13, a14, a15, a16, a17, a18, a19, a20) x := by
  unfold wpX_part
  exact la_isPartT h (br_f (by decide) (br_f (by decide) hp))
end
end
section
/-! questions over one line (and over two, of the second) -/
section
variable {dc pc ln sh nd fi : Int32} {ft : Int64} {fr : Int32} {a1 a2 a3 a4 a5 a6 a7 a8 : Nat → Int32} {a9 : Nat → Int64} {a10 : Nat → Int32} {a11 : Nat → Int64} {a12 a13 a14 a15 a16 a17 a18 a19 a20 : Nat → Int32}
theorem lo_time {post : Int32 → Prop} {tm : Int32} (h3 : a3 0 = tm) (hp : post tm) : wpX_time post (dc, pc, 1, sh, nd, fi, ft, fr, a1, a2, a3, a4, a5, a6, a7, a8, a9, a10, a11, a12, a13, a14, a15, a16, a17, a18, a19, a20) 0 := by
  unfold wpX_time
  refine la_isLineT (by decide) (by decide) (br_f (by decide) (And.intro (pk_in 0 60 (by omega)) ?_))
  show post (a3 0)
  rw [h3]
  exact hp
theorem lo_length {post : Int32 → Prop} (h4 : a4 0 = 0) (h7 : a7 0 = 1) (hp : post 1) : wpX_length post (dc, pc, 1, sh, nd, fi, ft, fr, a1, a2, a3, a4, a5, a6, a7, a8, a9, a10, a11, a12, a13, a14, a15, a16, a17, a18, a19, a20) 0 := by
  have p4i : vp_in (a4 0) 60 := by rw [h4]; exact pk_in 0 60 (by omega)
  have p7 : a7 (a4 0).toNatClampNeg = 1 := by rw [h4]; exact h7
  unfold wpX_length
  refine la_isLineT (by decide) (by decide) (br_f (by decide) (And.intro (pk_in 0 60 (by omega)) (And.intro p4i ?_)))
  show post (a7 (a4 0).toNatClampNeg)
  rw [p7]
  exact hp
theorem lo_at0 {post : Int32 → St2 → Prop} {it tm : Int32} (P : la_P 1 it tm a3 a4 a5 a6 a7 a8 a9) (hp : ∀ fr' re nu, post it (dc, pc, 1, sh, nd, fi, ft, fr', a1, a2, a3, a4, a5, a6, a7, a8, a9, a10, a11, a12, a13, a14, a15, re, nu, a18, a19, a20)) : wpX_at post (dc, pc, 1, sh, nd, fi, ft, fr, a1, a2, a3, a4, a5, a6, a7, a8, a9, a10, a11, a12, a13, a14, a15, a16, a17, a18, a19, a20) 0 0 := by
  have p4 : a4 0 = 0 := P.2.1 0 (by omega)
  have p4i : vp_in (a4 0) 60 := by rw [p4]; exact pk_in 0 60 (by omega)
  have p7 : a7 (a4 0).toNatClampNeg = 1 := by rw [p4]; exact P.2.2.1
  unfold wpX_at
  refine la_isLineT (by decide) (by decide) (br_f (by decide) (br_f (by decide) (And.intro (pk_in 0 60 (by omega)) (And.intro p4i (br_t ?_ (la_read P (fun fr' re nu hr => And.intro (pk_in 0 8 (by omega)) ?_)))))))
  · show 0 < a7 (a4 0).toNatClampNeg
    rw [p7]
    decide
  · show post (re 0) _
    rw [hr]
    exact hp fr' re nu
theorem lo_at1 {post : Int32 → St2 → Prop} (h4 : a4 0 = 0) (h7 : a7 0 = 1) (hp : post (-2) (dc, pc, 1, sh, nd, fi, ft, fr, a1, a2, a3, a4, a5, a6, a7, a8, a9, a10, a11, a12, a13, a14, a15, a16, a17, a18, a19, a20)) : wpX_at post (dc, pc, 1, sh, nd, fi, ft, fr, a1, a2, a3, a4, a5, a6, a7, a8, a9, a10, a11, a12, a13, a14, a15, a16, a17, a18, a19, a20) 0 1 := by
  have p4i : vp_in (a4 0) 60 := by rw [h4]; exact pk_in 0 60 (by omega)
  have p7 : a7 (a4 0).toNatClampNeg = 1 := by rw [h4]; exact h7
  unfold wpX_at
  refine la_isLineT (by decide) (by decide) (br_f (by decide) (br_f (by decide) (And.intro (pk_in 0 60 (by omega)) (And.intro p4i (br_f ?_ hp)))))
  show ¬ 1 < a7 (a4 0).toNatClampNeg
  rw [p7]
  decide
theorem la_first {post : Int32 → Prop} {x : Int32} (hx : x = 0) (hs : a9 0 = 1 ∨ a9 0 = 3) (hp : post 0) : wpX_firstOf post (dc, pc, ln, sh, nd, fi, ft, fr, a1, a2, a3, a4, a5, a6, a7, a8, a9, a10, a11, a12, a13, a14, a15, a16, a17, a18, a19, a20) x := by
  subst hx
  refine And.intro (pk_in 0 60 (by omega)) (la_lowest1 ?_ hp)
  show ¬ ((a9 0 >>> ((0 : Int32).toInt64 &&& 63)) &&& 1) = 0
  rcases hs with h | h
  · rw [h]; decide
  · rw [h]; decide
theorem lo_group {post : Int32 → Prop} (h4 : a4 0 = 0) (h9 : a9 0 = 1) (hp : post 0) : wpX_group post (dc, pc, 1, sh, nd, fi, ft, fr, a1, a2, a3, a4, a5, a6, a7, a8, a9, a10, a11, a12, a13, a14, a15, a16, a17, a18, a19, a20) 0 := by
  unfold wpX_group
  exact la_isLineT (by decide) (by decide) (br_f (by decide) (And.intro (pk_in 0 60 (by omega)) (la_first h4 (Or.inl h9) hp)))
theorem ld_group {post : Int32 → Prop} (h4 : a4 1 = 0) (h9 : a9 0 = 3) (hp : post 0) : wpX_group post (dc, pc, 2, sh, nd, fi, ft, fr, a1, a2, a3, a4, a5, a6, a7, a8, a9, a10, a11, a12, a13, a14, a15, a16, a17, a18, a19, a20) 1 := by
  unfold wpX_group
  exact la_isLineT (by decide) (by decide) (br_f (by decide) (And.intro (pk_in 1 60 (by omega)) (la_first h4 (Or.inr h9) hp)))
theorem lo_members {post : Int32 → Prop} (h4 : a4 0 = 0) (h9 : a9 0 = 1) (hp : post 1) : wpX_members post (dc, pc, 1, sh, nd, fi, ft, fr, a1, a2, a3, a4, a5, a6, a7, a8, a9, a10, a11, a12, a13, a14, a15, a16, a17, a18, a19, a20) 0 := by
  have p4i : vp_in (a4 0) 60 := by rw [h4]; exact pk_in 0 60 (by omega)
  have p9 : a9 (a4 0).toNatClampNeg = 1 := by rw [h4]; exact h9
  unfold wpX_members
  refine la_isLineT (by decide) (by decide) (br_f (by decide) (And.intro (pk_in 0 60 (by omega)) (And.intro p4i (la_ones (v := 1) ?_ hp))))
  show la_cnt (a9 (a4 0).toNatClampNeg) 60 0 0 = 1
  rw [p9]
  exact la_cnt1
theorem ld_members {post : Int32 → Prop} (h4 : a4 1 = 0) (h9 : a9 0 = 3) (hp : post 2) : wpX_members post (dc, pc, 2, sh, nd, fi, ft, fr, a1, a2, a3, a4, a5, a6, a7, a8, a9, a10, a11, a12, a13, a14, a15, a16, a17, a18, a19, a20) 1 := by
  have p4i : vp_in (a4 1) 60 := by rw [h4]; exact pk_in 0 60 (by omega)
  have p9 : a9 (a4 1).toNatClampNeg = 3 := by rw [h4]; exact h9
  unfold wpX_members
  refine la_isLineT (by decide) (by decide) (br_f (by decide) (And.intro (pk_in 1 60 (by omega)) (And.intro p4i (la_ones (v := 2) ?_ hp))))
  show la_cnt (a9 (a4 1).toNatClampNeg) 60 0 0 = 2
  rw [p9]
  exact la_cnt3
theorem lo_rank {post : Int32 → Prop} (h9 : a9 0 = 1) (hp : post 0) : wpX_rankOf post (dc, pc, ln, 1, nd, fi, ft, fr, a1, a2, a3, a4, a5, a6, a7, a8, a9, a10, a11, a12, a13, a14, a15, a16, a17, a18, a19, a20) 0 := by
  have c : la_cnt (a9 0) 60 0 0 = 1 := by rw [h9]; exact la_cnt1
  exact And.intro (pk_in 0 60 (by omega)) (la_ones (v := 1) c ⟨2, br_f (by decide) (And.intro (pk_in 0 60 (by omega)) (la_ones (v := 1) c (br_f (by decide) (br_t rfl (br_t (by decide) (nm_r (e' := 0) (by decide) (nm_r (e' := 1) (by decide) (br_t (by decide) hp))))))))⟩)
theorem lo_largest {post : Int32 → Prop} {k : Int32} (h9 : a9 0 = 1) (hT : k = 0 → post 0) (hF : ¬ k = 0 → post (-2)) : wpX_largest post (dc, pc, ln, 1, nd, fi, ft, fr, a1, a2, a3, a4, a5, a6, a7, a8, a9, a10, a11, a12, a13, a14, a15, a16, a17, a18, a19, a20) k :=
  ⟨2, br_f (by decide) (lo_rank h9 (br_c (fun e => la_first rfl (Or.inl h9) (hT e.symm)) (fun e => nm_r (e' := 1) (by decide) (br_t (by decide) (hF (fun z => e z.symm))))))⟩
theorem lo_recall {post : Int32 → St2 → Prop} {it tm : Int32} (P : la_P 1 it tm a3 a4 a5 a6 a7 a8 a9) (hp : ∀ fr' re nu a1', a1' 0 = it → post 1 (1, pc, 1, sh, nd, fi, ft, fr', a1', a2, a3, a4, a5, a6, a7, a8, a9, a10, a11, a12, a13, a14, a15, re, nu, a18, a19, a20)) : wpX_recall post (dc, pc, 1, sh, nd, fi, ft, fr, a1, a2, a3, a4, a5, a6, a7, a8, a9, a10, a11, a12, a13, a14, a15, a16, a17, a18, a19, a20) 0 := by
  have p4 : a4 0 = 0 := P.2.1 0 (by omega)
  have p4i : vp_in (a4 0) 60 := by rw [p4]; exact pk_in 0 60 (by omega)
  have p7 : a7 (a4 0).toNatClampNeg = 1 := by rw [p4]; exact P.2.2.1
  unfold wpX_recall
  refine la_isLineT (by decide) (by decide) (br_f (by decide) (la_read P (fun fr' re nu hr => And.intro (pk_in 0 60 (by omega)) (And.intro p4i (nm_r (e' := 1) p7 ⟨2, br_f (by decide) (And.intro (pk_in 0 8 (by omega)) (And.intro (pk_in 0 8 (by omega)) (nm_e (nm_r (e' := 1) (by decide) (br_t (by decide) (hp fr' re nu _ ?_))))))⟩)))))
  show upd a1 0 (re 0) 0 = it
  rw [pk_us, hr]
theorem la_hasN {post : Int32 → Prop} {v : Int32} (h7 : a7 0 = 1) (h8 : a8 0 = 1000) (h17 : a17 0 = v) (hp : post 1) : wpX_hasNumber post (dc, pc, ln, sh, nd, fi, ft, fr, a1, a2, a3, a4, a5, a6, a7, a8, a9, a10, a11, a12, a13, a14, a15, a16, a17, a18, a19, a20) 0 v :=
  ⟨1, And.intro (pk_in 0 60 (by omega)) (br_f (by show ¬ a7 0 ≤ 0; rw [h7]; decide) (And.intro (pk_in 0 480 (by omega)) (br_t h8 (And.intro (pk_in 0 8 (by omega)) (br_t h17 hp)))))⟩
/-- the one line's number, behind cleared numbers -/
theorem lo_add {post : St2 → Prop} {it tm : Int32} (P : la_P 1 it tm a3 a4 a5 a6 a7 a8 a9) (hc : a17 0 = 0) (hn : la_num it) (hp : ∀ fr' nu, nu 0 = it - 1000 → post (dc, pc, ln, sh, nd, fi, ft, fr', a1, a2, a3, a4, a5, a6, a7, a8, a9, a10, a11, a12, a13, a14, a15, a16, nu, a18, a19, a20)) : wpX_addLine post (dc, pc, ln, sh, nd, fi, ft, fr, a1, a2, a3, a4, a5, a6, a7, a8, a9, a10, a11, a12, a13, a14, a15, a16, a17, a18, a19, a20) 0 0 := by
  obtain ⟨p3, p4, p7, p8, p9, pd⟩ := P
  refine la_add (j := 0) (v := it - 1000) (by omega) rfl p7 p8 (fun e => pd hn 0 (by omega)) (fun fr' nu h => hp fr' nu ?_)
  rw [h (la_bl_num hn), hc]
  exact Int32.zero_add _
theorem lo_havingIn {post : Int32 → St2 → Prop} {it tm : Int32} (P : la_P 1 it tm a3 a4 a5 a6 a7 a8 a9) (hn : la_num it) (hp : ∀ fr' nu, post 1 (dc, pc, 1, sh, nd, fi, ft, fr', a1, a2, a3, a4, a5, a6, a7, a8, a9, a10, a11, a12, a13, a14, a15, a16, nu, a18, a19, a20)) : wpX_havingIn post (dc, pc, 1, sh, nd, fi, ft, fr, a1, a2, a3, a4, a5, a6, a7, a8, a9, a10, a11, a12, a13, a14, a15, a16, a17, a18, a19, a20) 0 (it - 1000) := by
  have p4 : a4 0 = 0 := P.2.1 0 (by omega)
  unfold wpX_havingIn
  refine la_clear (fun nu hnu => ⟨2, br_f (by decide) (And.intro (pk_in 0 60 (by omega)) (br_t p4 (lo_add P (hnu 0 (by omega)) hn (fun fr' nu' e => la_hasN P.2.2.1 (by rw [P.2.2.2.1]; exact la_bl_num hn) e (br_f (by decide) (nm_r (e' := 1) (by decide) (nm_r (e' := 1) (by decide) (br_t (by decide) (hp fr' nu')))))))))⟩)
theorem lo_having {post : Int32 → St2 → Prop} {it tm : Int32} (P : la_P 1 it tm a3 a4 a5 a6 a7 a8 a9) (hi : la_item it) (h11 : ¬ la_num it → a11 it.toNatClampNeg = 1) (hp : ∀ fr' nu, post 1 (dc, pc, 1, 1, nd, fi, ft, fr', a1, a2, a3, a4, a5, a6, a7, a8, a9, a10, a11, a12, a13, a14, a15, a16, nu, a18, a19, a20)) : wpX_having post (dc, pc, 1, 1, nd, fi, ft, fr, a1, a2, a3, a4, a5, a6, a7, a8, a9, a10, a11, a12, a13, a14, a15, a16, a17, a18, a19, a20) it := by
  unfold wpX_having
  refine la_isItemT hi (br_f (by decide) ?_)
  by_cases hn : la_num it
  · exact la_isNumT hn (br_f (by decide) ⟨2, br_f (by decide) (lo_havingIn P hn (fun fr' nu => nm_r (e' := 1) (by decide) (nm_r (e' := 1) (by decide) (br_t (by decide) (hp fr' nu)))))⟩)
  · obtain ⟨k, hk, e⟩ := la_wk (la_iw hi hn)
    refine la_isNumF hn (br_t rfl (And.intro (pk_in k 24 hk e) (la_ones (v := 1) ?_ (hp fr a17))))
    rw [h11 hn]
    exact la_cnt1
theorem lo_column1 {post : Int32 → St2 → Prop} {w : Int32} (h4 : a4 0 = 0) (h7 : a7 0 = 1) (hB : (w < 0 ∨ ¬ w ≤ 3) → post (-1) (dc, pc, 1, sh, nd, fi, ft, fr, a1, a2, a3, a4, a5, a6, a7, a8, a9, a10, a11, a12, a13, a14, a15, a16, a17, a18, a19, a20)) (hG : ¬ w < 0 → w ≤ 3 → post (-2) (dc, pc, 1, sh, nd, fi, ft, fr, a1, a2, a3, a4, a5, a6, a7, a8, a9, a10, a11, a12, a13, a14, a15, a16, a17, a18, a19, a20)) : wpX_column post (dc, pc, 1, sh, nd, fi, ft, fr, a1, a2, a3, a4, a5, a6, a7, a8, a9, a10, a11, a12, a13, a14, a15, a16, a17, a18, a19, a20) 0 1 w := by
  unfold wpX_column
  refine la_isLineT (by decide) (by decide) (br_f (by decide) (br_c (fun a => hB (Or.inl a)) (fun a => br_c (fun b => And.intro (pk_in 0 60 (by omega)) (nm_r (e' := 0) h4 (br_f (by decide) (And.intro (pk_in 0 60 (by omega)) (br_t ?_ (hG a b)))))) (fun b => hB (Or.inr b)))))
  show a7 0 ≤ 1
  rw [h7]
  decide
theorem lo_diff {post : Int32 → St2 → Prop} {it tm : Int32} (P : la_P 1 it tm a3 a4 a5 a6 a7 a8 a9) (hn : la_num it) (hp : ∀ fr' nu re, post 1 (dc, pc, 1, sh, nd, fi, ft, fr', a1, a2, a3, a4, a5, a6, a7, a8, a9, a10, a11, a12, a13, a14, a15, a16, nu, re, a19, a20)) : wpX_differentIn post (dc, pc, 1, sh, nd, fi, ft, fr, a1, a2, a3, a4, a5, a6, a7, a8, a9, a10, a11, a12, a13, a14, a15, a16, a17, a18, a19, a20) 0 0 := by
  have p4 : a4 0 = 0 := P.2.1 0 (by omega)
  unfold wpX_differentIn
  refine la_clear (fun nu hnu => ⟨2, br_f (by decide) (And.intro (pk_in 0 60 (by omega)) (br_t p4 (lo_add P (hnu 0 (by omega)) hn (fun fr' nu' e => And.intro (pk_in 0 8 (by omega)) ?_))))⟩)
  exact ⟨1, br_t (by decide) (br_t (by decide) ⟨1, br_t (by decide) (And.intro (pk_in 0 480 (by omega)) (nm_e (nm_r (e' := 1) (by decide) (br_t (by decide) (hp fr' nu' _)))))⟩)⟩
theorem lo_total {post : Int32 → St2 → Prop} {it tm w : Int32} (P : la_P 1 it tm a3 a4 a5 a6 a7 a8 a9) (hn : la_num it) (hp : ∀ fr' nu, post (it - 1000) (dc, pc, 1, sh, nd, fi, ft, fr', a1, a2, a3, a4, a5, a6, a7, a8, a9, a10, a11, a12, a13, a14, a15, a16, nu, a18, a19, a20)) : wpX_totalIn post (dc, pc, 1, sh, nd, fi, ft, fr, a1, a2, a3, a4, a5, a6, a7, a8, a9, a10, a11, a12, a13, a14, a15, a16, a17, a18, a19, a20) 0 0 w := by
  have p4 : a4 0 = 0 := P.2.1 0 (by omega)
  obtain ⟨k, hk, ek⟩ := la_nk hn
  unfold wpX_totalIn
  refine la_clear (fun nu hnu => ⟨2, br_f (by decide) (And.intro (pk_in 0 60 (by omega)) (br_t p4 (lo_add P (hnu 0 (by omega)) hn (fun fr' nu' e => And.intro (pk_in 0 8 (by omega)) (br_f ?_ (And.intro (pk_in 0 8 (by omega)) (And.intro (pk_in 0 8 (by omega)) (br_f ?_ (And.intro (pk_in 0 8 (by omega)) (And.intro (pk_in 0 8 (by omega)) (nm_r (e' := it - 1000) ?_ (nm_r (e' := 1) (by decide) (br_t (by decide) (br_c (fun _ => ?_) (fun _ => br_c (fun _ => ?_) (fun _ => hp fr' nu'))))))))))))))))⟩)
  · show ¬ (1000 : Int32) ≤ nu' 0
    rw [e, ek]
    exact nI_ge (b := 1000) hk (by omega)
  · show ¬ nu' 0 ≤ -1
    rw [e, ek]
    intro z
    exact absurd (Int32.le_trans (nI_pos' (by omega)) z) (by decide)
  · show 0 + nu' 0 = it - 1000
    rw [e]
    exact Int32.zero_add _
  · show post (nu' 0) _
    rw [e]
    exact hp fr' nu'
  · show post (nu' 0) _
    rw [e]
    exact hp fr' nu'
theorem lo_column0 {post : Int32 → St2 → Prop} {it tm w : Int32} (P : la_P 1 it tm a3 a4 a5 a6 a7 a8 a9) (hB : (w < 0 ∨ ¬ w ≤ 3) → post (-1) (dc, pc, 1, sh, nd, fi, ft, fr, a1, a2, a3, a4, a5, a6, a7, a8, a9, a10, a11, a12, a13, a14, a15, a16, a17, a18, a19, a20)) (hW : ¬ w < 0 → w ≤ 3 → ¬ la_num it → post (-2) (dc, pc, 1, sh, nd, fi, ft, fr, a1, a2, a3, a4, a5, a6, a7, a8, a9, a10, a11, a12, a13, a14, a15, a16, a17, a18, a19, a20)) (h3 : w = 3 → la_num it → ∀ fr' nu re, post 1 (dc, pc, 1, sh, nd, fi, ft, fr', a1, a2, a3, a4, a5, a6, a7, a8, a9, a10, a11, a12, a13, a14, a15, a16, nu, re, a19, a20)) (hT : ¬ w < 0 → w ≤ 3 → ¬ w = 3 → la_num it → ∀ fr' nu, post (it - 1000) (dc, pc, 1, sh, nd, fi, ft, fr', a1, a2, a3, a4, a5, a6, a7, a8, a9, a10, a11, a12, a13, a14, a15, a16, nu, a18, a19, a20)) : wpX_column post (dc, pc, 1, sh, nd, fi, ft, fr, a1, a2, a3, a4, a5, a6, a7, a8, a9, a10, a11, a12, a13, a14, a15, a16, a17, a18, a19, a20) 0 0 w := by
  have p4 : a4 0 = 0 := P.2.1 0 (by omega)
  have p7 : a7 0 = 1 := P.2.2.1
  have p8 : a8 0 = la_bl it := P.2.2.2.1
  unfold wpX_column
  refine la_isLineT (by decide) (by decide) (br_f (by decide) (br_c (fun a => hB (Or.inl a)) (fun a => br_c (fun b => And.intro (pk_in 0 60 (by omega)) (nm_r (e' := 0) p4 (br_f (by decide) (And.intro (pk_in 0 60 (by omega)) (br_f ?_ (And.intro (pk_in 0 480 (by omega)) (br_c (fun c => ?_) (fun c => hW a b ?_)))))))) (fun b => hB (Or.inr b)))))
  · show ¬ a7 0 ≤ 0
    rw [p7]
    decide
  · have hn : la_num it := la_bl_eq.mp (by rw [← p8]; exact c)
    exact br_c (fun d => lo_diff P hn (h3 d hn)) (fun d => lo_total P hn (hT a b d hn))
  · intro hn
    exact c (by show a8 0 = 1000; rw [p8]; exact la_bl_num hn)
end
end
section
/-! which lines fit -/
section
variable {dc pc ln sh nd fi : Int32} {ft : Int64} {fr : Int32} {a1 a2 a3 a4 a5 a6 a7 a8 : Nat → Int32} {a9 : Nat → Int64} {a10 : Nat → Int32} {a11 : Nat → Int64} {a12 a13 a14 a15 a16 a17 a18 a19 a20 : Nat → Int32}
theorem la_bool (P : Prop) : ∃ b : Bool, (P ↔ b = true) := by
  by_cases h : P
  · exact ⟨true, ⟨fun _ => rfl, fun _ => h⟩⟩
  · exact ⟨false, ⟨fun z => absurd z h, fun z => absurd z (by decide)⟩⟩
theorem la_ogL {post : Int32 → Prop} {g : Nat → Bool} {N : Nat} (hN : N ≤ 8) (hg : ∀ i, i < N → (a2 i = 2002 ↔ g i = true)) : ∀ k i x, i + k = N → post (la_og g k i x) → wX_overGaps_4 post dc (nI N) ln sh nd fi ft fr a1 a2 a3 a4 a5 a6 a7 a8 a9 a10 a11 a12 a13 a14 a15 a16 a17 a18 a19 a20 (k + 1) x (nI i) := by
  intro k
  induction k with
  | zero => exact fun i x hi hp => pk_le N i (fun _ => hp) (fun z => absurd z (by omega))
  | succ k ih =>
    intro i x hi hp
    have hc : (nI i).toNatClampNeg = i := nI_clamp (by omega)
    have hp' : post (la_og g k (i + 1) (if ((x >>> (nI i &&& 31)) &&& 1) = 1 then (if g i = true then x ||| ((1 : Int32) <<< ((nI i + 1) &&& 31)) else x ||| 0) else x ||| 0)) := hp
    refine pk_le N i (fun z => absurd z (by omega)) (fun _ => br_c (fun a => And.intro (pk_in i 8 (by omega)) (br_c (fun b => ?_) (fun b => ?_))) (fun a => ?_))
    · rw [hc] at b
      rw [if_pos a, if_pos ((hg i (by omega)).mp b)] at hp'
      exact nm_e (nm_r (nI_1 i) (ih (i + 1) _ (by omega) hp'))
    · rw [hc] at b
      have nb : ¬ g i = true := fun z => b ((hg i (by omega)).mpr z)
      rw [if_pos a, if_neg nb] at hp'
      exact nm_e (nm_r (nI_1 i) (ih (i + 1) _ (by omega) hp'))
    · rw [if_neg a] at hp'
      exact nm_e (nm_r (nI_1 i) (ih (i + 1) _ (by omega) hp'))
theorem la_overGaps {post : Int32 → Prop} {g : Nat → Bool} {N : Nat} {x : Int32} (hN : N ≤ 8) (hg : ∀ i, i < N → (a2 i = 2002 ↔ g i = true)) (hp : post (la_og g N 0 x)) : wpX_overGaps post (dc, (nI N), ln, sh, nd, fi, ft, fr, a1, a2, a3, a4, a5, a6, a7, a8, a9, a10, a11, a12, a13, a14, a15, a16, a17, a18, a19, a20) x :=
  ⟨N + 1, la_ogL hN hg N 0 x (by omega) hp⟩
theorem la_afL {post : Int32 → Prop} {g t : Nat → Bool} {N : Nat} {s it bk : Int32} (hN : N ≤ 8) (hg : ∀ i, i < N → (a2 i = 2002 ↔ g i = true)) (ht : ∀ i, i < N → g i = false → (la_tk (a2 i) it bk ↔ t i = true)) : ∀ k i x, i + k = N → post (la_og g N 0 (la_af s g t k i x)) → wX_after_6 post s it bk dc (nI N) ln sh nd fi ft fr a1 a2 a3 a4 a5 a6 a7 a8 a9 a10 a11 a12 a13 a14 a15 a16 a17 a18 a19 a20 (k + 1) x (nI i) := by
  intro k
  induction k with
  | zero => exact fun i x hi hp => pk_le N i (fun _ => la_overGaps hN hg hp) (fun z => absurd z (by omega))
  | succ k ih =>
    intro i x hi hp
    have hc : (nI i).toNatClampNeg = i := nI_clamp (by omega)
    have hp' : post (la_og g N 0 (la_af s g t k (i + 1) (if ((s >>> (nI i &&& 31)) &&& 1) = 1 then (if g i = true then x ||| ((1 : Int32) <<< (nI i &&& 31)) else if t i = true then x ||| ((1 : Int32) <<< ((nI i + 1) &&& 31)) else x ||| 0) else x))) := hp
    refine pk_le N i (fun z => absurd z (by omega)) (fun _ => br_c (fun a => And.intro (pk_in i 8 (by omega)) (br_c (fun b => ?_) (fun b => And.intro (pk_in i 8 (by omega)) ?_))) (fun a => ?_))
    · rw [hc] at b
      rw [if_pos a, if_pos ((hg i (by omega)).mp b)] at hp'
      exact nm_e (nm_r (nI_1 i) (ih (i + 1) _ (by omega) hp'))
    · rw [hc] at b
      rw [hc]
      have nb : ¬ g i = true := fun z => b ((hg i (by omega)).mpr z)
      have nf : g i = false := by simpa using nb
      rw [if_pos a, if_neg nb] at hp'
      refine la_takes (fun c => br_f (by decide) ?_) (fun c => br_t rfl ?_)
      · rw [if_pos ((ht i (by omega) nf).mp c)] at hp'
        exact nm_e (nm_r (nI_1 i) (ih (i + 1) _ (by omega) hp'))
      · have nt : ¬ t i = true := fun z => c ((ht i (by omega) nf).mpr z)
        rw [if_neg nt] at hp'
        exact nm_e (nm_r (nI_1 i) (ih (i + 1) _ (by omega) hp'))
    · rw [if_neg a] at hp'
      exact nm_r (nI_1 i) (ih (i + 1) _ (by omega) hp')
theorem la_after {post : Int32 → Prop} {g t : Nat → Bool} {N : Nat} {s it bk : Int32} (hN : N ≤ 8) (hg : ∀ i, i < N → (a2 i = 2002 ↔ g i = true)) (ht : ∀ i, i < N → g i = false → (la_tk (a2 i) it bk ↔ t i = true)) (hp : post (la_og g N 0 (la_af s g t N 0 0))) : wpX_after post (dc, (nI N), ln, sh, nd, fi, ft, fr, a1, a2, a3, a4, a5, a6, a7, a8, a9, a10, a11, a12, a13, a14, a15, a16, a17, a18, a19, a20) s it bk :=
  ⟨N + 1, la_afL hN hg ht N 0 0 (by omega) hp⟩
theorem la_hg {N : Nat} {gb : Bool} (h0 : a2 0 = 2002 ↔ gb = true) (hG : ∀ j, 1 ≤ j → j < N → a2 j = 2002) : ∀ i, i < N → (a2 i = 2002 ↔ la_g gb i = true) := by
  intro i hi
  by_cases e : i = 0
  · subst e
    rw [h0]
    simp [la_g]
  · have h1 : 1 ≤ i := by omega
    simp [la_g, h1, hG i h1 hi]
theorem la_ht {N : Nat} {gb tb : Bool} {it bk : Int32} (ht : gb = false → (la_tk (a2 0) it bk ↔ tb = true)) : ∀ i, i < N → la_g gb i = false → (la_tk (a2 i) it bk ↔ la_t tb i = true) := by
  intro i hi hf
  by_cases e : i = 0
  · subst e
    exact ht (by simpa [la_g] using hf)
  · have h1 : 1 ≤ i := by omega
    simp [la_g, h1] at hf
theorem la_smf {post : Int32 → Prop} {N : Nat} {bl : Int32} {gb tb : Bool} (hN : N = 1 ∨ N = 8) (h7 : a7 0 = 1) (h8 : a8 0 = bl) (h0 : a2 0 = 2002 ↔ gb = true) (hG : ∀ j, 1 ≤ j → j < N → a2 j = 2002) (ht : ∀ bk : Int32, (bl = 1000 → bk = 1) → (¬ bl = 1000 → bk = 0) → gb = false → (la_tk (a2 0) bl bk ↔ tb = true)) (hT : (gb || tb) = true → post 1) (hF : ¬ (gb || tb) = true → post 0) : wpX_shapeMayFit post (dc, (nI N), ln, sh, nd, fi, ft, fr, a1, a2, a3, a4, a5, a6, a7, a8, a9, a10, a11, a12, a13, a14, a15, a16, a17, a18, a19, a20) 0 := by
  have hg := la_hg h0 hG
  have fin : ∀ bk : Int32, (bl = 1000 → bk = 1) → (¬ bl = 1000 → bk = 0) → wX_shapeMayFit_48 post (wX_shapeMayFit_8 post 0 dc (nI N) ln sh nd fi ft fr a1 a2 a3 a4 a5 a6 a7 a8 a9 a10 a11 a12 a13 a14 a15 a16 a17 a18 a19 a20 1) 0 0 bk bl (la_og (la_g gb) N 0 1) dc (nI N) ln sh nd fi ft fr a1 a2 a3 a4 a5 a6 a7 a8 a9 a10 a11 a12 a13 a14 a15 a16 a17 a18 a19 a20 := fun bk h1 h2 => by
    unfold wX_shapeMayFit_48
    exact la_after (by omega) hg (la_ht (ht bk h1 h2)) (nm_r (e' := 1) (by decide) (And.intro (pk_in 0 60 (by omega)) (br_t (by show a7 0 ≤ 1; rw [h7]; decide) (br_c (fun b => hT ((la_bits hN gb tb).mp b)) (fun b => hF (fun z => b ((la_bits hN gb tb).mpr z)))))))
  unfold wpX_shapeMayFit
  exact la_overGaps (by omega) hg ⟨2, And.intro (pk_in 0 60 (by omega)) (br_f (by show ¬ a7 0 ≤ 0; rw [h7]; decide) (And.intro (pk_in 0 480 (by omega)) (nm_r (e' := bl) h8 (br_c (fun e => fin 1 (fun _ => rfl) (fun z => absurd e z)) (fun e => fin 0 (fun z => absurd z e) (fun _ => rfl))))))⟩
theorem la_lf {post : Int32 → Prop} {N : Nat} {it : Int32} {gb tb : Bool} (hN : N = 1 ∨ N = 8) (h7 : a7 0 = 1) (h8 : a8 0 = la_bl it) (hn : la_num it → a17 0 = it - 1000) (h0 : a2 0 = 2002 ↔ gb = true) (hG : ∀ j, 1 ≤ j → j < N → a2 j = 2002) (ht : gb = false → (la_tk (a2 0) it 0 ↔ tb = true)) (hT : (gb || tb) = true → post 1) (hF : ¬ (gb || tb) = true → post 0) : wpX_lineFits post (dc, (nI N), ln, sh, nd, fi, ft, fr, a1, a2, a3, a4, a5, a6, a7, a8, a9, a10, a11, a12, a13, a14, a15, a16, a17, a18, a19, a20) 0 := by
  have hg := la_hg h0 hG
  have fin : ∀ x : Int32, x = it → wX_lineFits_56 post (wX_lineFits_8 post 0 dc (nI N) ln sh nd fi ft fr a1 a2 a3 a4 a5 a6 a7 a8 a9 a10 a11 a12 a13 a14 a15 a16 a17 a18 a19 a20 1) 0 0 x (la_og (la_g gb) N 0 1) dc (nI N) ln sh nd fi ft fr a1 a2 a3 a4 a5 a6 a7 a8 a9 a10 a11 a12 a13 a14 a15 a16 a17 a18 a19 a20 := fun x hx => by
    subst hx
    unfold wX_lineFits_56
    exact la_after (by omega) hg (la_ht ht) (nm_r (e' := 1) (by decide) (And.intro (pk_in 0 60 (by omega)) (br_t (by show a7 0 ≤ 1; rw [h7]; decide) (br_c (fun b => hT ((la_bits hN gb tb).mp b)) (fun b => hF (fun z => b ((la_bits hN gb tb).mpr z)))))))
  unfold wpX_lineFits
  refine la_overGaps (by omega) hg ⟨2, And.intro (pk_in 0 60 (by omega)) (br_f (by show ¬ a7 0 ≤ 0; rw [h7]; decide) (And.intro (pk_in 0 480 (by omega)) (nm_r (e' := la_bl it) h8 (br_c (fun e => And.intro (pk_in 0 8 (by omega)) (fin _ ?_)) (fun e => fin _ ?_)))))⟩
  · show 1000 + a17 0 = it
    rw [hn (la_bl_eq.mp e), la_back]
  · exact la_bl_word (fun z => e (la_bl_eq.mpr z))
def la_sel (b : Bool) (i : Nat) : Int64 := if b = true then la_full i else 0
theorem la_selT {b : Bool} (h : b = true) : ∀ i, i < 2 → la_sel b i ||| ((1 : Int64) <<< ((nI i).toInt64 &&& 63)) = la_sel b (i + 1) := by
  subst h
  decide +kernel
theorem la_selF {b : Bool} (h : ¬ b = true) (i : Nat) : la_sel b i ||| 0 = la_sel b (i + 1) := by
  unfold la_sel
  rw [if_neg h, if_neg h]
  decide
theorem la_ltfL {post : Int64 → St2 → Prop} {n N : Nat} {it tm : Int32} {gb tb : Bool} (hn : n ≤ 2) (P : la_P n it tm a3 a4 a5 a6 a7 a8 a9) (hN : N = 1 ∨ N = 8) (h0 : a2 0 = 2002 ↔ gb = true) (hG : ∀ j, 1 ≤ j → j < N → a2 j = 2002) (ht : gb = false → (la_tk (a2 0) it 0 ↔ tb = true)) (hp : ∀ fr' nu, post (la_sel (gb || tb) n) (dc, (nI N), (nI n), sh, nd, fi, ft, fr', a1, a2, a3, a4, a5, a6, a7, a8, a9, a10, a11, a12, a13, a14, a15, a16, nu, a18, a19, a20)) :
    ∀ k i fr' nu, i + k = n → (la_num it → nu 0 = if i = 0 then 0 else it - 1000) → wX_linesThatFit_9 post 0 (k + 1) (la_sel (gb || tb) i) (nI i) dc (nI N) (nI n) sh nd fi ft fr' a1 a2 a3 a4 a5 a6 a7 a8 a9 a10 a11 a12 a13 a14 a15 a16 nu a18 a19 a20 := by
  intro k
  induction k with
  | zero =>
    intro i fr' nu hi hu
    have e : i = n := by omega
    subst e
    exact pk_le i i (fun _ => hp fr' nu) (fun z => absurd z (by omega))
  | succ k ih =>
    intro i fr' nu hi hu
    obtain ⟨p3, p4, p7, p8, p9, pd⟩ := P
    have hc : (nI i).toNatClampNeg = i := nI_clamp (by omega)
    refine pk_le n i (fun z => absurd z (by omega)) (fun _ => And.intro (pk_in i 60 (by omega)) (br_t (by rw [hc]; exact p4 i (by omega)) ?_))
    refine la_add (j := i) (by omega) rfl p7 p8 (fun e => pd (la_bl_eq.mp e) i (by omega)) (fun fr2 nu2 h2 => ?_)
    have hu2 : la_num it → nu2 0 = it - 1000 := by
      intro z
      rw [h2 (la_bl_num z), hu z]
      by_cases e : i = 0
      · rw [if_pos e, if_pos e]
        exact Int32.zero_add _
      · rw [if_neg e, if_neg e]
        exact Int32.add_zero _
    have hu3 : la_num it → nu2 0 = if i + 1 = 0 then 0 else it - 1000 := fun z => by
      rw [if_neg (by omega)]
      exact hu2 z
    exact la_lf hN p7 p8 hu2 h0 hG ht (fun b => br_f (by decide) (nm_r (la_selT b i (by omega)) (nm_r (nI_1 i) (ih (i + 1) fr2 nu2 (by omega) hu3)))) (fun b => br_t rfl (nm_r (la_selF b i) (nm_r (nI_1 i) (ih (i + 1) fr2 nu2 (by omega) hu3))))
theorem la_ltf {post : Int64 → St2 → Prop} {n N : Nat} {it tm : Int32} {gb tb : Bool} (hn : n ≤ 2) (P : la_P n it tm a3 a4 a5 a6 a7 a8 a9) (hN : N = 1 ∨ N = 8) (h0 : a2 0 = 2002 ↔ gb = true) (hG : ∀ j, 1 ≤ j → j < N → a2 j = 2002) (ht : gb = false → (la_tk (a2 0) it 0 ↔ tb = true)) (hp : ∀ fr' nu, post (la_sel (gb || tb) n) (dc, (nI N), (nI n), sh, nd, fi, ft, fr', a1, a2, a3, a4, a5, a6, a7, a8, a9, a10, a11, a12, a13, a14, a15, a16, nu, a18, a19, a20)) : wpX_linesThatFit post (dc, (nI N), (nI n), sh, nd, fi, ft, fr, a1, a2, a3, a4, a5, a6, a7, a8, a9, a10, a11, a12, a13, a14, a15, a16, a17, a18, a19, a20) 0 := by
  have e0 : la_sel (gb || tb) 0 = 0 := by cases gb <;> cases tb <;> rfl
  unfold wpX_linesThatFit
  refine la_clear (fun nu hnu => ⟨n + 1, ?_⟩)
  have h := la_ltfL (fi := fi) (ft := ft) (sh := sh) (nd := nd) (dc := dc) (a1 := a1) (a10 := a10) (a11 := a11) (a12 := a12) (a13 := a13) (a14 := a14) (a15 := a15) (a16 := a16) (a18 := a18) (a19 := a19) (a20 := a20) hn P hN h0 hG ht hp n 0 fr nu (by omega) (fun _ => by rw [if_pos rfl]; exact hnu 0 (by omega))
  rw [e0] at h
  exact h
theorem la_nnG {post : Int32 → Prop} {N : Nat} (hN : N ≤ 8) (hG : ∀ j, 1 ≤ j → j < N → a2 j = 2002) (hp : post 0) : ∀ k i, 1 ≤ i → i + k = N → wX_namesNumbers_2 post dc (nI N) ln sh nd fi ft fr a1 a2 a3 a4 a5 a6 a7 a8 a9 a10 a11 a12 a13 a14 a15 a16 a17 a18 a19 a20 (k + 1) (nI i) := by
  intro k
  induction k with
  | zero => exact fun i h1 hi => pk_le N i (fun _ => hp) (fun z => absurd z (by omega))
  | succ k ih =>
    intro i h1 hi
    have e : a2 (nI i).toNatClampNeg = 2002 := by rw [nI_clamp (by omega)]; exact hG i h1 (by omega)
    refine pk_le N i (fun z => absurd z (by omega)) (fun _ => And.intro (pk_in i 8 (by omega)) ?_)
    refine la_isNumF ?_ (br_t rfl (And.intro (pk_in i 8 (by omega)) (br_t ?_ (nm_r (nI_1 i) (ih (i + 1) (by omega) (by omega))))))
    · rw [e]
      exact fun z => z.2 (by decide)
    · rw [e]
      decide
theorem la_names {post : Int32 → Prop} {N : Nat} (hN : N = 1 ∨ N = 8) (hG : ∀ j, 1 ≤ j → j < N → a2 j = 2002) (hT : (la_num (a2 0) ∨ ¬ a2 0 < 3000) → post 1) (hF : ¬ (la_num (a2 0) ∨ ¬ a2 0 < 3000) → post 0) : wpX_namesNumbers post (dc, (nI N), ln, sh, nd, fi, ft, fr, a1, a2, a3, a4, a5, a6, a7, a8, a9, a10, a11, a12, a13, a14, a15, a16, a17, a18, a19, a20) := by
  obtain ⟨M, rfl⟩ : ∃ M, N = M + 1 := ⟨N - 1, by omega⟩
  refine ⟨M + 1 + 1, pk_le (M + 1) 0 (fun z => absurd z (by omega)) (fun _ => And.intro (pk_in 0 8 (by omega)) ?_)⟩
  by_cases hn : la_num (a2 0)
  · exact la_isNumT hn (br_f (by decide) (hT (Or.inl hn)))
  · refine la_isNumF hn (br_t rfl (And.intro (pk_in 0 8 (by omega)) (br_c (fun a => nm_r (e' := nI 1) (by decide) (la_nnG (by omega) hG (hF ?_) M 1 (by omega) (by omega))) (fun a => hT (Or.inr a)))))
    rintro (z | z)
    · exact hn z
    · exact z a
abbrev la_mm (it p : Int32) : Prop := (p = 2002 ∨ la_tk p (la_bl it) (la_bk it)) ∧ (¬ (la_num p ∨ ¬ p < 3000) ∨ (p = 2002 ∨ la_tk p it 0))
theorem la_fit33 {post : St2 → Prop} {n N : Nat} {it tm x1 : Int32} {F : Int64} (hn : n = 1 ∨ n = 2) (hN : N = 1 ∨ N = 8) (P : la_P n it tm a3 a4 a5 a6 a7 a8 a9) (hG : ∀ j, 1 ≤ j → j < N → a2 j = 2002) (hx : la_fl (¬ (la_num (a2 0) ∨ ¬ a2 0 < 3000)) x1) (hF1 : la_mm it (a2 0) → F = la_full n) (hF0 : ¬ la_mm it (a2 0) → F = 0) (hp : ∀ fr' nu, post (dc, (nI N), (nI n), 1, nd, 1, F, fr', a1, a2, a3, a4, a5, a6, a7, a8, a9, a10, a11, a12, a13, a14, a15, a16, nu, a18, a19, a20)) : ∃ fu, wX_fit_33 post x1 fu 0 dc (nI N) (nI n) 1 nd 1 0 fr a1 a2 a3 a4 a5 a6 a7 a8 a9 a10 a11 a12 a13 a14 a15 a16 a17 a18 a19 a20 := by
  obtain ⟨gb, h0⟩ := la_bool (a2 0 = 2002)
  obtain ⟨tb, h1⟩ := la_bool (la_tk (a2 0) (la_bl it) (la_bk it))
  obtain ⟨t2, h2⟩ := la_bool (la_tk (a2 0) it 0)
  have ht : ∀ bk : Int32, (la_bl it = 1000 → bk = 1) → (¬ la_bl it = 1000 → bk = 0) → gb = false → (la_tk (a2 0) (la_bl it) bk ↔ tb = true) := by
    intro bk e1 e2 _
    have e : bk = la_bk it := by
      by_cases hb : la_num it
      · rw [e1 (la_bl_num hb)]
        exact (if_pos hb).symm
      · rw [e2 (fun z => hb (la_bl_eq.mp z))]
        exact (if_neg hb).symm
    rw [e]
    exact h1
  have k1 : (gb || tb) = true ↔ (a2 0 = 2002 ∨ la_tk (a2 0) (la_bl it) (la_bk it)) := by rw [h0, h1]; simp
  have k2 : (gb || t2) = true ↔ (a2 0 = 2002 ∨ la_tk (a2 0) it 0) := by rw [h0, h2]; simp
  have hNp : ¬ nI N ≤ 0 := nI_nle (by omega) (by omega)
  refine ⟨2, br_f (by decide) (br_f hNp (la_smf hN P.2.2.1 P.2.2.2.1 h0 hG ht (fun b => br_f (by decide) ?_) (fun b => br_t rfl (nm_r (e' := 1) (by decide) (br_t (by decide) ?_)))))⟩
  · have b1 := k1.mp b
    rcases hx with ⟨hx, e⟩ | ⟨hx, e⟩
    · subst e
      refine br_f (by decide) (And.intro (pk_in 0 60 (by omega)) (nm_r (e' := F) ?_ (nm_r (e' := 1) (by decide) (br_t (by decide) (hp fr a17)))))
      show 0 ||| a9 0 = F
      rw [P.2.2.2.2.1, hF1 ⟨b1, Or.inl hx⟩]
      exact Int64.zero_or
    · subst e
      refine br_t rfl (la_ltf (gb := gb) (tb := t2) (by omega) P hN h0 hG (fun _ => h2) (fun fr' nu => nm_r (e' := F) ?_ (nm_r (e' := 1) (by decide) (br_t (by decide) (hp fr' nu)))))
      rw [Int64.zero_or]
      unfold la_sel
      by_cases b2 : (gb || t2) = true
      · rw [if_pos b2, hF1 ⟨b1, Or.inr (k2.mp b2)⟩]
      · rw [if_neg b2]
        exact (hF0 (fun z => b2 (k2.mpr (z.2.resolve_left hx)))).symm
  · have e : F = 0 := hF0 (fun z => b (k1.mpr z.1))
    subst e
    exact hp fr a17
theorem la_fit {post : St2 → Prop} {n N : Nat} {it tm : Int32} {F : Int64} (hn : n = 1 ∨ n = 2) (hN : N = 0 ∨ N = 1 ∨ N = 8) (P : la_P n it tm a3 a4 a5 a6 a7 a8 a9) (hG : ∀ j, 1 ≤ j → j < N → a2 j = 2002) (hF1 : N ≠ 0 → la_mm it (a2 0) → F = la_full n) (hF0 : ¬ (N ≠ 0 ∧ la_mm it (a2 0)) → F = 0) (hp : ∀ fr' nu, post (dc, (nI N), (nI n), 1, nd, 1, F, fr', a1, a2, a3, a4, a5, a6, a7, a8, a9, a10, a11, a12, a13, a14, a15, a16, nu, a18, a19, a20)) : wpX_fit post (dc, (nI N), (nI n), 1, nd, 0, ft, fr, a1, a2, a3, a4, a5, a6, a7, a8, a9, a10, a11, a12, a13, a14, a15, a16, a17, a18, a19, a20) := by
  by_cases h0 : N = 0
  · subst h0
    have e : F = 0 := hF0 (fun z => z.1 rfl)
    subst e
    exact br_t rfl ⟨1, br_t (by decide) (br_t rfl ⟨1, br_f (by decide) (br_t (by decide) (hp fr a17))⟩)⟩
  · have hN' : N = 1 ∨ N = 8 := hN.resolve_left h0
    exact br_t rfl (la_names hN' hG
      (fun b => br_f (by decide) (la_fit33 hn hN' P hG (la_fF (fun z => z b)) (hF1 h0) (fun z => hF0 (fun q => z q.2)) hp))
      (fun b => br_t rfl (la_fit33 hn hN' P hG (la_fT b) (hF1 h0) (fun z => hF0 (fun q => z q.2)) hp)))
end
end
section
/-! writing, emptying, beginning -/
section
variable {dc pc ln sh nd fi : Int32} {ft : Int64} {fr : Int32} {a1 a2 a3 a4 a5 a6 a7 a8 : Nat → Int32} {a9 : Nat → Int64} {a10 : Nat → Int32} {a11 : Nat → Int64} {a12 a13 a14 a15 a16 a17 a18 a19 a20 : Nat → Int32}
theorem la_wBad {post : Int32 → St2 → Prop} {p : Int32} (h : ¬ (¬ p < 0 ∧ ¬ 1000 < p)) (hp : post (-1) (dc, pc, ln, sh, nd, fi, ft, fr, a1, a2, a3, a4, a5, a6, a7, a8, a9, a10, a11, a12, a13, a14, a15, a16, a17, a18, a19, a20)) : wpX_write post (dc, pc, ln, sh, nd, fi, ft, fr, a1, a2, a3, a4, a5, a6, a7, a8, a9, a10, a11, a12, a13, a14, a15, a16, a17, a18, a19, a20) p :=
  br_c (fun _ => hp) (fun a => br_c (fun _ => hp) (fun b => absurd ⟨a, b⟩ h))
theorem la_wOld {post : Int32 → St2 → Prop} {p tm : Int32} (h3 : a3 0 = tm) (ht : ¬ tm < 0) (hpe : p = tm - 1) (hp : post (-1) (dc, pc, 1, sh, nd, fi, ft, fr, a1, a2, a3, a4, a5, a6, a7, a8, a9, a10, a11, a12, a13, a14, a15, a16, a17, a18, a19, a20)) : wpX_write post (dc, pc, 1, sh, nd, fi, ft, fr, a1, a2, a3, a4, a5, a6, a7, a8, a9, a10, a11, a12, a13, a14, a15, a16, a17, a18, a19, a20) p := by
  subst hpe
  refine br_c (fun _ => hp) (fun a => br_c (fun _ => hp) (fun b => br_f (by decide) (And.intro (pk_in 0 60 (by omega)) (br_f ?_ hp))))
  show ¬ a3 0 ≤ tm - 1
  rw [h3]
  exact la_pred ht
theorem lz_wNone {post : Int32 → St2 → Prop} {p : Int32} (h : ¬ p < 0 ∧ ¬ 1000 < p) (hp : post (-2) (0, pc, 0, sh, nd, fi, ft, fr, a1, a2, a3, a4, a5, a6, a7, a8, a9, a10, a11, a12, a13, a14, a15, a16, a17, a18, a19, a20)) : wpX_write post (0, pc, 0, sh, nd, fi, ft, fr, a1, a2, a3, a4, a5, a6, a7, a8, a9, a10, a11, a12, a13, a14, a15, a16, a17, a18, a19, a20) p :=
  br_f h.1 (br_f h.2 (br_t (by decide) (br_t rfl hp)))
theorem ld_wNone {post : Int32 → St2 → Prop} {p : Int32} (h : ¬ p < 0 ∧ ¬ 1000 < p) (h3 : a3 1 = p) (hp : post (-2) (0, pc, 2, sh, nd, fi, ft, fr, a1, a2, a3, a4, a5, a6, a7, a8, a9, a10, a11, a12, a13, a14, a15, a16, a17, a18, a19, a20)) : wpX_write post (0, pc, 2, sh, nd, fi, ft, fr, a1, a2, a3, a4, a5, a6, a7, a8, a9, a10, a11, a12, a13, a14, a15, a16, a17, a18, a19, a20) p := by
  refine br_f h.1 (br_f h.2 (br_f (by decide) (And.intro (pk_in 1 60 (by omega)) (br_t ?_ (br_t rfl hp)))))
  show a3 1 ≤ p
  rw [h3]
  exact Int32.le_refl _
theorem la_newNode {post : Int32 → St2 → Prop} {k : Nat} {x : Int32} (hk : k < 484) (hp : post (nI k) (dc, pc, ln, sh, (nI (k + 1)), fi, ft, fr, a1, a2, a3, a4, a5, a6, a7, a8, a9, a10, a11, (upd a12 k x), (upd a13 k (-1)), (upd a14 k (-1)), (upd a15 k (-1)), a16, a17, a18, a19, a20)) : wpX_newNode post (dc, pc, ln, sh, (nI k), fi, ft, fr, a1, a2, a3, a4, a5, a6, a7, a8, a9, a10, a11, a12, a13, a14, a15, a16, a17, a18, a19, a20) x := by
  have hc : (nI k).toNatClampNeg = k := nI_clamp (by omega)
  have hi : vp_in (nI k) 484 := pk_in k 484 hk
  refine And.intro hi (nm_r (e' := upd a12 k x) (by rw [hc]) (And.intro hi (nm_r (e' := upd a13 k (-1)) (by rw [hc]) (And.intro hi (nm_r (e' := upd a14 k (-1)) (by rw [hc]) (And.intro hi (nm_r (e' := upd a15 k (-1)) (by rw [hc]) (nm_r (nI_1 k) ?_))))))))
  exact ek_v (P := fun r => post r (dc, pc, ln, sh, (nI (k + 1)), fi, ft, fr, a1, a2, a3, a4, a5, a6, a7, a8, a9, a10, a11, (upd a12 k x), (upd a13 k (-1)), (upd a14 k (-1)), (upd a15 k (-1)), a16, a17, a18, a19, a20)) (nI_pred k) hp
/-- an empty archive -/
def la_E (a5 : Nat → Int32) (a11 : Nat → Int64) (a13 : Nat → Int32) : Prop := a5 0 = 0 ∧ (∀ w, w < 24 → a11 w = 0) ∧ a13 0 = -1
theorem la_emptyL {post : St2 → Prop} (hp : ∀ b11, (∀ w, w < 24 → b11 w = 0) → post (dc, pc, ln, sh, nd, 0, ft, fr, a1, a2, a3, a4, a5, a6, a7, a8, a9, a10, b11, a12, a13, a14, a15, a16, a17, a18, a19, a20)) : ∀ k i b11, i + k = 24 → (∀ w, w < i → b11 w = 0) → wX_empty_30 post dc pc ln sh nd fi ft fr (k + 1) (nI i) a1 a2 a3 a4 a5 a6 a7 a8 a9 a10 b11 a12 a13 a14 a15 a16 a17 a18 a19 a20 := by
  intro k
  induction k with
  | zero => exact fun i b hi h => pk_le 24 i (fun _ => hp b (fun j hj => h j (by omega))) (fun z => absurd z (by omega))
  | succ k ih =>
    intro i b hi h
    refine pk_le 24 i (fun z => absurd z (by omega)) (fun _ => And.intro (pk_in i 24 (by omega)) (nm_e (nm_r (nI_1 i) (ih (i + 1) _ (by omega) (fun j hj => ?_)))))
    rw [nI_clamp (show i < 2 ^ 31 by omega)]
    by_cases e : j = i
    · rw [e, pk_uLs]
    · rw [pk_uLn e]
      exact h j (by omega)
theorem la_empty {post : St2 → Prop} (hp : ∀ b5 b11 b12 b13 b14 b15, la_E b5 b11 b13 → post (dc, pc, 0, 0, 1, 0, ft, fr, a1, a2, a3, a4, b5, a6, a7, a8, a9, a10, b11, b12, b13, b14, b15, a16, a17, a18, a19, a20)) : wpX_empty post (dc, pc, ln, sh, nd, fi, ft, fr, a1, a2, a3, a4, a5, a6, a7, a8, a9, a10, a11, a12, a13, a14, a15, a16, a17, a18, a19, a20) := by
  refine nm_e (la_newNode (k := 0) (by omega) ⟨25, la_emptyL (fun b11 h11 => hp _ b11 _ _ _ _ ⟨?_, h11, ?_⟩) 24 0 a11 rfl (fun w hw => absurd hw (by omega))⟩)
  · exact pk_us
  · exact pk_us
theorem la_init {post : St2 → Prop} (hp : ∀ b5 b11 b12 b13 b14 b15, la_E b5 b11 b13 → post (0, 0, 0, 0, 1, 0, 0, 0, (fun _ => 0), (fun _ => 0), (fun _ => 0), (fun _ => 0), b5, (fun _ => 0), (fun _ => 0), (fun _ => 0), (fun _ => 0), (fun _ => 0), b11, b12, b13, b14, b15, (fun _ => 0), (fun _ => 0), (fun _ => 0), (fun _ => 0), (fun _ => 0))) : wpX_init post 20 4813 (0, 0, 0, 0, 0, 0, 0, 0) := by
  unfold wpX_init
  refine ⟨by omega, by omega, by omega, by omega, by omega, by omega, by omega, by omega, by omega, by omega, by omega, by omega, by omega, by omega, by omega, by omega, by omega, by omega, by omega, by omega, by omega, by omega, by omega, by omega, by omega, by omega, by omega, by omega, by omega, by omega, by omega, by omega, by omega, by omega, by omega, by omega, by omega, by omega, by omega, by omega, ?_⟩
  exact la_empty hp
theorem la_keep0 {post : St2 → Prop} (hp : ∀ nu, nu 0 = 0 → post (0, pc, ln, sh, nd, fi, ft, fr, a1, a2, a3, a4, a5, a6, a7, a8, a9, a10, a11, a12, a13, a14, a15, a16, nu, a18, a19, a20)) : wpX_keepDraft post (0, pc, ln, sh, nd, fi, ft, fr, a1, a2, a3, a4, a5, a6, a7, a8, a9, a10, a11, a12, a13, a14, a15, a16, a17, a18, a19, a20) :=
  nm_e ⟨1, br_t (by decide) (hp _ pk_us)⟩
theorem la_bring0 {post : St2 → Prop} (h : a17 0 = 0) (hp : post (0, pc, ln, sh, nd, fi, ft, fr, a1, a2, a3, a4, a5, a6, a7, a8, a9, a10, a11, a12, a13, a14, a15, a16, a17, a18, a19, a20)) : wpX_bringDraft post (dc, pc, ln, sh, nd, fi, ft, fr, a1, a2, a3, a4, a5, a6, a7, a8, a9, a10, a11, a12, a13, a14, a15, a16, a17, a18, a19, a20) :=
  nm_r (e' := 0) h ⟨1, br_t (by decide) hp⟩
theorem la_expire2 {post : Int32 → St2 → Prop} {p : Int32} (h : ∀ Q : Int32 → Prop, Q 2 → wpX_countBelow Q (0, pc, 2, sh, nd, fi, ft, fr, a1, a2, a3, a4, a5, a6, a7, a8, a9, a10, a11, a12, a13, a14, a15, a16, a17, a18, a19, a20) p) (hp : ∀ b5 b11 b12 b13 b14 b15 nu, la_E b5 b11 b13 → post 2 (0, pc, 0, 0, 1, 0, ft, fr, a1, a2, a3, a4, b5, a6, a7, a8, a9, a10, b11, b12, b13, b14, b15, a16, nu, a18, a19, a20)) : wpX_expire post (0, pc, 2, sh, nd, fi, ft, fr, a1, a2, a3, a4, a5, a6, a7, a8, a9, a10, a11, a12, a13, a14, a15, a16, a17, a18, a19, a20) p := by
  unfold wpX_expire
  refine h _ (br_f (by decide) (nm_r (e' := 0) (by decide) ⟨1, br_t (by decide) (la_keep0 (fun nu hu => la_empty (fun b5 b11 b12 b13 b14 b15 E => ⟨1, br_t (by decide) (la_bring0 hu (hp b5 b11 b12 b13 b14 b15 nu E))⟩)))⟩))
theorem la_step0 {post : Int32 → St2 → Prop} {x : Int32} (h13 : a13 0 = -1) (hp : ∀ b12 b13 b14 b15, b12 1 = x → b13 0 = 1 → b15 1 = -1 → post 1 (dc, pc, ln, sh, 2, fi, ft, fr, a1, a2, a3, a4, a5, a6, a7, a8, a9, a10, a11, b12, b13, b14, b15, a16, a17, a18, a19, a20)) : wpX_stepTo post (dc, pc, ln, sh, 1, fi, ft, fr, a1, a2, a3, a4, a5, a6, a7, a8, a9, a10, a11, a12, a13, a14, a15, a16, a17, a18, a19, a20) 0 x := by
  refine And.intro (pk_in 0 484 (by omega)) (nm_r (e' := -1) h13 ⟨1, br_t (by decide) (br_f (by decide) (la_newNode (k := 1) (by omega) (And.intro (pk_in 0 484 (by omega)) (And.intro (pk_in 1 484 (by omega)) (nm_e (And.intro (pk_in 0 484 (by omega)) (nm_e (hp _ _ _ _ ?_ ?_ ?_))))))))⟩)
  · exact pk_us
  · exact pk_us
  · exact pk_us
theorem la_step1 {post : Int32 → St2 → Prop} {x : Int32} (h13 : a13 0 = 1) (h12 : a12 1 = x) (hp : post 1 (dc, pc, ln, sh, nd, fi, ft, fr, a1, a2, a3, a4, a5, a6, a7, a8, a9, a10, a11, a12, a13, a14, a15, a16, a17, a18, a19, a20)) : wpX_stepTo post (dc, pc, ln, sh, nd, fi, ft, fr, a1, a2, a3, a4, a5, a6, a7, a8, a9, a10, a11, a12, a13, a14, a15, a16, a17, a18, a19, a20) 0 x :=
  And.intro (pk_in 0 484 (by omega)) (nm_r (e' := 1) h13 ⟨1, br_f (by decide) (And.intro (pk_in 1 484 (by omega)) (br_t h12 (br_t (by decide) hp)))⟩)
theorem la_sod79 {post : Int32 → St2 → Prop} {it : Int32} (h1 : a1 0 = it) (h15 : a15 1 = 0) (hp : ∀ b8 b10, b8 0 = la_bl it → b10 0 = 0 → post 0 (1, pc, ln, 1, nd, fi, ft, fr, a1, a2, a3, a4, a5, a6, a7, b8, a9, b10, a11, a12, a13, a14, a15, a16, a17, a18, a19, a20)) : ∃ fu, wX_shapeOfDraft_79 post 1 1 pc ln 0 nd fi ft fr fu 0 a1 a2 a3 a4 a5 a6 a7 a8 a9 a10 a11 a12 a13 a14 a15 a16 a17 a18 a19 a20 := by
  refine ⟨2, br_f (by decide) (And.intro (pk_in 0 8 (by omega)) (la_blanked (And.intro (pk_in 0 480 (by omega)) (nm_e (And.intro (pk_in 0 480 (by omega)) (nm_e (nm_r (e' := 1) (by decide) (br_t (by decide) (nm_r (e' := 1) (by decide) (And.intro (pk_in 1 484 (by omega)) ?_))))))))))⟩
  refine ek_v (P := fun r => post r _) (show a15 1 = 0 from h15) (hp _ _ ?_ ?_)
  · show upd a8 0 (la_bl (a1 0)) 0 = la_bl it
    rw [pk_us, h1]
  · exact pk_us
theorem la_sod0 {post : Int32 → St2 → Prop} {it : Int32} (h1 : a1 0 = it) (h13 : a13 0 = -1) (hp : ∀ b7 b8 b9 b10 b12 b13 b14 b15, b7 0 = 1 → b8 0 = la_bl it → b9 0 = 0 → b10 0 = 0 → b12 1 = la_bl it → b13 0 = 1 → b15 1 = 0 → post 0 (1, pc, ln, 1, 2, fi, ft, fr, a1, a2, a3, a4, a5, a6, b7, b8, b9, b10, a11, b12, b13, b14, b15, a16, a17, a18, a19, a20)) : wpX_shapeOfDraft post (1, pc, ln, 0, 1, fi, ft, fr, a1, a2, a3, a4, a5, a6, a7, a8, a9, a10, a11, a12, a13, a14, a15, a16, a17, a18, a19, a20) := by
  refine ⟨2, br_f (by decide) (And.intro (pk_in 0 8 (by omega)) (la_blanked (la_step0 h13 (fun b12 b13 b14 b15 e12 e13 e15 => nm_r (e' := 1) (by decide) (br_t (by decide) (And.intro (pk_in 1 484 (by omega)) (br_f ?_ (And.intro (pk_in 1 484 (by omega)) (nm_e (And.intro (pk_in 0 60 (by omega)) (nm_e (And.intro (pk_in 0 60 (by omega)) (nm_e (la_sod79 h1 ?_ (fun b8 b10 e8 e10 => hp _ b8 _ b10 b12 b13 b14 _ ?_ e8 ?_ e10 ?_ e13 ?_)))))))))))))))⟩
  · show ¬ 0 ≤ b15 1
    rw [e15]
    decide
  · exact pk_us
  · exact pk_us
  · exact pk_uLs
  · rw [e12]
    show la_bl (a1 0) = la_bl it
    rw [h1]
  · exact pk_us
theorem la_sod1 {post : Int32 → St2 → Prop} {it : Int32} (h1 : a1 0 = it) (h13 : a13 0 = 1) (h12 : a12 1 = la_bl it) (h15 : a15 1 = 0) (hp : post 0 (1, pc, ln, sh, nd, fi, ft, fr, a1, a2, a3, a4, a5, a6, a7, a8, a9, a10, a11, a12, a13, a14, a15, a16, a17, a18, a19, a20)) : wpX_shapeOfDraft post (1, pc, ln, sh, nd, fi, ft, fr, a1, a2, a3, a4, a5, a6, a7, a8, a9, a10, a11, a12, a13, a14, a15, a16, a17, a18, a19, a20) := by
  refine ⟨2, br_f (by decide) (And.intro (pk_in 0 8 (by omega)) (la_blanked (la_step1 h13 ?_ (nm_r (e' := 1) (by decide) (br_t (by decide) (And.intro (pk_in 1 484 (by omega)) (br_t ?_ (And.intro (pk_in 1 484 (by omega)) ?_))))))))⟩
  · rw [h12]
    show la_bl it = la_bl (a1 0)
    rw [h1]
  · show 0 ≤ a15 1
    rw [h15]
    decide
  · exact ek_v (P := fun r => post r (1, pc, ln, sh, nd, fi, ft, fr, a1, a2, a3, a4, a5, a6, a7, a8, a9, a10, a11, a12, a13, a14, a15, a16, a17, a18, a19, a20)) (show a15 1 = 0 from h15) hp
theorem la_bringN {post : Int32 → St2 → Prop} {k d : Nat} (hk : k < 900) (hd : d < 1000) (hp : ∀ b6 k', la_dw b6 k k' (nI d) → (∀ j, j < k → b6 j = a6 j) → k' ≤ k + 2 → post (nI k') (dc, pc, ln, sh, nd, fi, ft, fr, a1, a2, a3, a4, a5, b6, a7, a8, a9, a10, a11, a12, a13, a14, a15, a16, a17, a18, a19, a20)) : wpX_bringNumber post (dc, pc, ln, sh, nd, fi, ft, fr, a1, a2, a3, a4, a5, a6, a7, a8, a9, a10, a11, a12, a13, a14, a15, a16, a17, a18, a19, a20) (nI k) (nI d) := by
  have hc : (nI k).toNatClampNeg = k := nI_clamp (by omega)
  have hc1 : (nI k + 1).toNatClampNeg = k + 1 := by rw [nI_1]; exact nI_clamp (by omega)
  refine br_t (nI_pos' (by omega)) (br_c (fun a => ?_) (fun a => ?_))
  · refine And.intro (pk_in k 960 (by omega)) (nm_e (And.intro (pk_in (k + 1) 960 (by omega) (nI_1 k)) (nm_e ?_)))
    rw [hc, hc1]
    refine ek_v (P := fun r => post r _) (show nI k + 2 = nI (k + 2) from nI_add k 2) (hp _ (k + 2) (Or.inr ⟨rfl, ?_, ?_⟩) (fun j hj => ?_) (by omega))
    · rw [pk_un (show k ≠ k + 1 by omega), pk_us]
      exact (la_enc2 d hd a).1
    · rw [pk_un (show k ≠ k + 1 by omega), pk_us, pk_us]
      exact (la_enc2 d hd a).2
    · rw [pk_un (by omega), pk_un (by omega)]
  · refine And.intro (pk_in k 960 (by omega)) (nm_e ?_)
    rw [hc]
    refine ek_v (P := fun r => post r _) (nI_1 k) (hp _ (k + 1) (Or.inl ⟨rfl, ?_, ?_⟩) (fun j hj => ?_) (by omega))
    · rw [pk_us]
      exact (la_enc1 d hd a).1
    · rw [pk_us]
      exact (la_enc1 d hd a).2
    · rw [pk_un (by omega)]
/-- the loop of writeDraft over a draft of one item, into shape 0 -/
theorem la_wd21 {post : Int32 → St2 → Prop} {it tm : Int32} {n b : Nat} (hn : n < 2) (hi : la_item it) (h1 : a1 0 = it) (hb : b ≤ 2)
    (h10 : la_num it → it - 1000 - a10 0 = if n = 0 then it - 1000 else 0)
    (hp : ∀ b6 b10 b11 (b' : Nat), b' ≤ b + 2 → (la_num it → la_dw b6 b b' (if n = 0 then it - 1000 else 0) ∧ b10 0 = it - 1000) → (∀ j, j < b → b6 j = a6 j) → (¬ la_num it → b11 it.toNatClampNeg = a11 it.toNatClampNeg ||| ((1 : Int64) <<< ((nI n).toInt64 &&& 63))) →
      post (nI n) (1, pc, (nI (n + 1)), sh, nd, 0, ft, fr, a1, a2, (upd a3 n tm), (upd a4 n 0), (upd a5 (n + 1) (nI b')), b6, a7, a8, (vp_updL a9 0 (a9 0 ||| ((1 : Int64) <<< ((nI n).toInt64 &&& 63)))), b10, b11, a12, a13, a14, a15, a16, a17, a18, a19, a20)) :
    ∃ fu, wX_writeDraft_21 post tm (nI n) 0 fu (nI b) 0 1 pc (nI n) sh nd fi ft fr a1 a2 a3 a4 a5 a6 a7 a8 a9 a10 a11 a12 a13 a14 a15 a16 a17 a18 a19 a20 := by
  have hcn : (nI n).toNatClampNeg = n := nI_clamp (by omega)
  have hcn1 : (nI n + 1).toNatClampNeg = n + 1 := by rw [nI_1]; exact nI_clamp (by omega)
  have tail : ∀ b6 b10 b11 (b' : Nat), b' ≤ b + 2 → (la_num it → la_dw b6 b b' (if n = 0 then it - 1000 else 0) ∧ b10 0 = it - 1000) → (∀ j, j < b → b6 j = a6 j) → (¬ la_num it → b11 it.toNatClampNeg = a11 it.toNatClampNeg ||| ((1 : Int64) <<< ((nI n).toInt64 &&& 63))) → wX_writeDraft_21 post tm (nI n) 0 1 (nI b') 1 1 pc (nI n) sh nd fi ft fr a1 a2 a3 a4 a5 b6 a7 a8 a9 b10 b11 a12 a13 a14 a15 a16 a17 a18 a19 a20 := by
    intro b6 b10 b11 b' q0 q1 q2 q3
    exact br_t (by decide) (And.intro (pk_in (n + 1) 61 (by omega) (nI_1 n)) (nm_r (e' := upd a5 (n + 1) (nI b')) (by rw [hcn1]) (And.intro (pk_in n 60 (by omega)) (nm_r (e' := upd a3 n tm) (by rw [hcn]) (And.intro (pk_in n 60 (by omega)) (nm_r (e' := upd a4 n 0) (by rw [hcn]) (And.intro (pk_in 0 60 (by omega)) (And.intro (pk_in 0 60 (by omega)) (nm_r (e' := vp_updL a9 0 (a9 0 ||| ((1 : Int64) <<< ((nI n).toInt64 &&& 63)))) rfl (nm_r (nI_1 n) (hp b6 b10 b11 b' q0 q1 q2 q3)))))))))))
  refine ⟨2, br_f (by decide) (And.intro (pk_in 0 8 (by omega)) ?_)⟩
  by_cases hnum : la_num it
  · obtain ⟨d, hd, ed⟩ := la_nk hnum
    refine la_isNumT (by show la_num (a1 0); rw [h1]; exact hnum) (br_f (by decide) (nm_r (e' := 0) (by decide) (And.intro (pk_in 0 8 (by omega)) (And.intro (pk_in 0 480 (by omega)) ?_))))
    obtain ⟨d', hd', ed'⟩ : ∃ d' : Nat, d' < 1000 ∧ it - 1000 - a10 0 = nI d' := by
      rw [h10 hnum]
      by_cases e : n = 0
      · rw [if_pos e]
        exact ⟨d, hd, ed⟩
      · rw [if_neg e]
        exact ⟨0, by omega, rfl⟩
    have ex : (a1 0 - 1000 - a10 0) = nI d' := by rw [h1]; exact ed'
    show wpX_bringNumber _ _ _ (a1 0 - 1000 - a10 0)
    rw [ex]
    refine la_bringN (by omega) hd' (fun b6 k' q1 q2 q3 => And.intro (pk_in 0 8 (by omega)) (And.intro (pk_in 0 480 (by omega)) (nm_e (nm_r (e' := 1) (by decide) (tail b6 _ a11 k' q3 (fun _ => ⟨?_, ?_⟩) q2 (fun z => absurd hnum z))))))
    · rw [← h10 hnum, ed']
      exact q1
    · show upd a10 0 (a1 0 - 1000) 0 = it - 1000
      rw [pk_us, h1]
  · obtain ⟨w, hw, ew⟩ := la_wk (la_iw hi hnum)
    have e1 : a1 0 = nI w := by rw [h1]; exact ew
    refine la_isNumF (by show ¬ la_num (a1 0); rw [h1]; exact hnum) (br_t rfl (And.intro (pk_in 0 8 (by omega)) (And.intro (pk_in w 24 hw e1) (And.intro (pk_in w 24 hw e1) (nm_e (nm_r (e' := 1) (by decide) (tail a6 a10 _ b (by omega) (fun z => absurd z hnum) (fun j hj => rfl) (fun _ => ?_))))))))
    show vp_updL a11 (a1 0).toNatClampNeg (a11 (a1 0).toNatClampNeg ||| ((1 : Int64) <<< ((nI n).toInt64 &&& 63))) it.toNatClampNeg = _
    rw [h1, pk_uLs]
/-- behind one line: what the next line of the same shape rests on -/
def la_Q (it : Int32) (a5 a6 a10 : Nat → Int32) (a11 : Nat → Int64) (a12 a13 a15 : Nat → Int32) : Prop :=
  ∃ b : Nat, b ≤ 2 ∧ a5 0 = 0 ∧ a5 1 = nI b ∧ (la_num it → la_dw a6 0 b (it - 1000) ∧ a10 0 = it - 1000) ∧ (¬ la_num it → a11 it.toNatClampNeg = 1) ∧ a12 1 = la_bl it ∧ a13 0 = 1 ∧ a15 1 = 0
theorem la_w01 {post : Int32 → St2 → Prop} {it tm : Int32} (E : la_E a5 a11 a13) (hi : la_item it) (ht : ¬ tm < 0 ∧ ¬ 1000 < tm) (h1 : a1 0 = it)
    (hp : ∀ b3 b4 b5 b6 b7 b8 b9 b10 b11 b12 b13 b14 b15, la_P 1 it tm b3 b4 b5 b6 b7 b8 b9 → la_Q it b5 b6 b10 b11 b12 b13 b15 → post 0 (0, pc, 1, 1, 2, 0, ft, fr, a1, a2, b3, b4, b5, b6, b7, b8, b9, b10, b11, b12, b13, b14, b15, a16, a17, a18, a19, a20)) : wpX_write post (1, pc, 0, 0, 1, fi, ft, fr, a1, a2, a3, a4, a5, a6, a7, a8, a9, a10, a11, a12, a13, a14, a15, a16, a17, a18, a19, a20) tm := by
  obtain ⟨e5, e11, e13⟩ := E
  refine br_f ht.1 (br_f ht.2 (br_t (by decide) (br_f (by decide) (br_t (by decide) ?_))))
  unfold wpX_writeDraft
  refine la_sod0 h1 e13 (fun b7 b8 b9 b10 b12 b13 b14 b15 q7 q8 q9 q10 q12 q13 q15 => And.intro (pk_in 0 61 (by omega)) (nm_r (e' := nI 0) e5 (la_wd21 (n := 0) (b := 0) (by omega) hi h1 (by omega) (fun _ => by rw [q10, if_pos rfl]; grind) (fun c6 c10 c11 b' k0 k1 k2 k3 => hp _ _ _ c6 b7 b8 _ c10 c11 b12 b13 b14 b15 ⟨fun l hl => ?_, fun l hl => ?_, q7, q8, ?_, fun hn l hl => ?_⟩ ⟨b', k0, ?_, pk_us, fun hn => ⟨(k1 hn).1, (k1 hn).2⟩, fun hn => ?_, q12, q13, q15⟩))))
  · rw [show l = 0 by omega, pk_us]
  · rw [show l = 0 by omega, pk_us]
  · rw [pk_uLs, q9]
    decide
  · rw [show l = 0 by omega, pk_un (by omega), e5, if_pos rfl]
    exact ⟨0, b', rfl, by omega, (k1 hn).1⟩
  · rw [pk_un (by omega)]
    exact e5
  · obtain ⟨w, hw, ew⟩ := la_wk (la_iw hi hn)
    rw [k3 hn, ew, nI_clamp (by omega), e11 w hw]
    decide
theorem la_w12 {post : Int32 → St2 → Prop} {it tm : Int32} (P : la_P 1 it tm a3 a4 a5 a6 a7 a8 a9) (Q : la_Q it a5 a6 a10 a11 a12 a13 a15) (hi : la_item it) (ht : ¬ tm < 0 ∧ ¬ 1000 < tm) (h1 : a1 0 = it)
    (hp : ∀ b3 b4 b5 b6 b9 b10 b11, la_P 2 it tm b3 b4 b5 b6 a7 a8 b9 → post 1 (0, pc, 2, sh, nd, 0, ft, fr, a1, a2, b3, b4, b5, b6, a7, a8, b9, b10, b11, a12, a13, a14, a15, a16, a17, a18, a19, a20)) : wpX_write post (1, pc, 1, sh, nd, fi, ft, fr, a1, a2, a3, a4, a5, a6, a7, a8, a9, a10, a11, a12, a13, a14, a15, a16, a17, a18, a19, a20) tm := by
  obtain ⟨p3, p4, p7, p8, p9, pd⟩ := P
  obtain ⟨b, hb, e5, e51, qn, qw, q12, q13, q15⟩ := Q
  refine br_f ht.1 (br_f ht.2 (br_f (by decide) (And.intro (pk_in 0 60 (by omega)) (br_t ?_ (br_f (by decide) (br_t (by decide) ?_))))))
  · show a3 0 ≤ tm
    rw [p3 0 (by omega)]
    exact Int32.le_refl _
  unfold wpX_writeDraft
  refine la_sod1 h1 q13 q12 q15 (And.intro (pk_in 1 61 (by omega)) (nm_r (e' := nI b) e51 (la_wd21 (n := 1) (b := b) (by omega) hi h1 hb (fun hn => by rw [(qn hn).2, if_neg (by omega)]; exact Int32.sub_self _) (fun c6 c10 c11 b' k0 k1 k2 k3 => hp _ _ _ c6 _ c10 c11 ⟨fun l hl => ?_, fun l hl => ?_, p7, p8, ?_, fun hn l hl => ?_⟩))))
  · by_cases e : l = 1
    · rw [e, pk_us]
    · rw [pk_un e]
      exact p3 l (by omega)
  · by_cases e : l = 1
    · rw [e, pk_us]
    · rw [pk_un e]
      exact p4 l (by omega)
  · rw [pk_uLs, p9]
    decide
  · by_cases e : l = 1
    · rw [e, pk_un (by omega), e51, if_neg (by omega)]
      exact ⟨b, b', rfl, by omega, (k1 hn).1⟩
    · have e0 : l = 0 := by omega
      rw [e0, pk_un (by omega), e5, if_pos rfl]
      exact ⟨0, b, rfl, by omega, la_dw_keep (qn hn).1 k2⟩
end
end
section
/-! the law, from its end: two lines -/
section
variable {dc pc ln sh nd fi : Int32} {ft : Int64} {fr : Int32} {a1 a2 a3 a4 a5 a6 a7 a8 : Nat → Int32} {a9 : Nat → Int64} {a10 : Nat → Int32} {a11 : Nat → Int64} {a12 a13 a14 a15 a16 a17 a18 a19 a20 : Nat → Int32} {post : Int32 → St0 → Prop} {mc ms kc ks : Nat} {x3 x5 x6 x7 x9 x12 x13 z0 z1 : Int32}
theorem la_blank {post : Int32 → St2 → Prop} (hp : post pc (dc, 0, ln, sh, nd, 0, ft, fr, a1, a2, a3, a4, a5, a6, a7, a8, a9, a10, a11, a12, a13, a14, a15, a16, a17, a18, a19, a20)) : wpX_blank post (dc, pc, ln, sh, nd, fi, ft, fr, a1, a2, a3, a4, a5, a6, a7, a8, a9, a10, a11, a12, a13, a14, a15, a16, a17, a18, a19, a20) := hp
/-- already fitted -/
theorem la_fitD {Q : St2 → Prop} (h : ∀ fr' nu, Q (dc, pc, ln, sh, nd, 1, ft, fr', a1, a2, a3, a4, a5, a6, a7, a8, a9, a10, a11, a12, a13, a14, a15, a16, nu, a18, a19, a20)) : wpX_fit Q (dc, pc, ln, sh, nd, 1, ft, fr, a1, a2, a3, a4, a5, a6, a7, a8, a9, a10, a11, a12, a13, a14, a15, a16, a17, a18, a19, a20) := br_f (by decide) (h fr a17)
theorem la_end {Q : Int32 → Prop} (hq : Q 2) : wpX_countUpTo Q (dc, pc, 2, sh, nd, fi, ft, fr, a1, a2, a3, a4, a5, a6, a7, a8, a9, a10, a11, a12, a13, a14, a15, a16, a17, a18, a19, a20) 1000 := br_f (by decide) hq
theorem la_beg {Q : Int32 → Prop} {tm : Int32} (h3 : a3 0 = tm) (h31 : a3 1 = tm) (ht : ¬ tm < 0) (hq : Q 0) : wpX_countBelow Q (dc, pc, 2, sh, nd, fi, ft, fr, a1, a2, a3, a4, a5, a6, a7, a8, a9, a10, a11, a12, a13, a14, a15, a16, a17, a18, a19, a20) 0 := la_cb2 h3 h31 (fun z => absurd z ht) (fun _ => hq)
theorem la_1214 (H : post 1 ()) (hi : la_item x5) (ht : ¬ x6 < 0 ∧ ¬ 1000 < x6) (P : la_P 2 x5 x6 a3 a4 a5 a6 a7 a8 a9) (hz : z1 = z0) : wL_lawOf_1214 post mc ms x5 x6 z0 z1 kc ks 0 8 2 1 nd fi ft fr a1 a2 a3 a4 a5 a6 a7 a8 a9 a10 a11 a12 a13 a14 a15 a16 a17 a18 a19 a20 := by
  have h3 : a3 0 = x6 := P.1 0 (by omega)
  have h31 : a3 1 = x6 := P.1 1 (by omega)
  refine br_t hz (la_blank (br_t rfl ?_))
  refine la_fitting (F := 0) (b := 0) (e := 2) (r := 0) (fun Q h => la_fit (n := 2) (N := 0) (Or.inr rfl) (Or.inl rfl) P (fun j h1 h2 => absurd h2 (by omega)) (fun z => absurd rfl z) (fun _ => rfl) h) (fun fr' nu Q q => la_beg h3 h31 ht.1 q) (fun fr' nu Q q => la_end q) (Or.inr ⟨by decide, by decide +kernel⟩) (fun fr' nu => br_t rfl ?_)
  refine la_expire0 (fun Q q => la_cb2 h3 h31 (fun z => absurd z Int32.lt_irrefl) (fun _ => q)) (br_t rfl ?_)
  refine la_expire2 (fun Q q => la_cb2 h3 h31 (fun _ => q) (fun z => absurd ((la_ltS (Int32.not_lt.mp ht.2)).mpr (Int32.le_refl _)) z)) (fun b5 b11 b12 b13 b14 b15 nu' E => br_t rfl (br_t rfl ?_))
  exact lz_having E.2.1 (fun _ => br_t rfl (lz_digest (br_t rfl (br_t rfl H)))) (fun z => absurd hi z)
theorem la_1135 (H : post 1 ()) (hi : la_item x5) (ht : ¬ x6 < 0 ∧ ¬ 1000 < x6) (P : la_P 2 x5 x6 a3 a4 a5 a6 a7 a8 a9) (h9 : la_fl (la_part x7) x9) (h13 : la_fl (la_part x7 ∧ la_M x5 x7) x13) :
    ∀ k i b2, i + k = 8 → (la_part x7 → 1 ≤ i ∧ b2 0 = x7) → (¬ la_part x7 → 1 ≤ i → b2 0 = 2002) → (∀ j, 1 ≤ j → j < i → b2 j = 2002) → wL_lawOf_1135 post mc ms x5 x6 x9 x13 kc ks (k + 1) (nI i) 0 (nI i) 2 1 nd 0 ft fr a1 b2 a3 a4 a5 a6 a7 a8 a9 a10 a11 a12 a13 a14 a15 a16 a17 a18 a19 a20 := by
  have h3 : a3 0 = x6 := P.1 0 (by omega)
  have h31 : a3 1 = x6 := P.1 1 (by omega)
  intro k
  induction k with
  | zero =>
    intro i b2 hik q1 q2 q3
    have e : i = 8 := by omega
    subst e
    refine pk_le 8 8 (fun _ => ?_) (fun z => absurd z (by omega))
    refine la_part8 (by decide) (br_t rfl (la_partF (by decide) (br_t rfl ?_)))
    have key : ∀ (F : Int64) (r : Int32), (la_mm x5 (b2 0) → F = 3) → (¬ la_mm x5 (b2 0) → F = 0) → (F = 3 → r = 2) → (F = 0 → r = 0) → ∀ Q : Int32 → St2 → Prop, (∀ fr' nu, Q r (0, 8, 2, 1, nd, 1, F, fr', a1, b2, a3, a4, a5, a6, a7, a8, a9, a10, a11, a12, a13, a14, a15, a16, nu, a18, a19, a20)) → wpX_fitting Q (0, 8, 2, 1, nd, 0, ft, fr, a1, b2, a3, a4, a5, a6, a7, a8, a9, a10, a11, a12, a13, a14, a15, a16, a17, a18, a19, a20) 0 1000 := by
      intro F r f1 f0 r3 r0 Q hQ
      refine la_fitting (F := F) (b := 0) (e := 2) (r := r) (fun Q' h => la_fit (n := 2) (N := 8) (Or.inr rfl) (Or.inr (Or.inr rfl)) P q3 (fun _ m => f1 m) (fun m => f0 (fun z => m ⟨by decide, z⟩)) h) (fun fr' nu Q' q => la_beg h3 h31 ht.1 q) (fun fr' nu Q' q => la_end q) (Or.inr ⟨by decide, ?_⟩) hQ
      by_cases m : la_mm x5 (b2 0)
      · have e := f1 m
        rw [r3 e, e]
        decide +kernel
      · have e := f0 m
        rw [r0 e, e]
        decide +kernel
    by_cases hf : la_part x7
    · obtain ⟨_, e0⟩ := q1 hf
      have mm : la_mm x5 (b2 0) ↔ la_M x5 x7 := by rw [e0]; exact la_meets hi hf
      by_cases m : la_M x5 x7
      · refine key 3 2 (fun _ => rfl) (fun z => absurd (mm.mpr m) z) (fun _ => rfl) (fun z => absurd z (by decide)) _ (fun fr' nu => la_fb h9 (fun z => absurd hf z) (fun _ => la_fb h13 (fun z => absurd ⟨hf, m⟩ z) (fun _ => ?_)))
        exact la_1214 H hi ht P rfl
      · refine key 0 0 (fun z => absurd (mm.mp z) m) (fun _ => rfl) (fun z => absurd z (by decide)) (fun _ => rfl) _ (fun fr' nu => la_fb h9 (fun z => absurd hf z) (fun _ => la_fb h13 (fun _ => ?_) (fun z => absurd z.2 m)))
        exact la_1214 H hi ht P rfl
    · have e0 := q2 hf (by omega)
      have mm : la_mm x5 (b2 0) := ⟨Or.inl e0, Or.inr (Or.inl e0)⟩
      refine key 3 2 (fun _ => rfl) (fun z => absurd mm z) (fun _ => rfl) (fun z => absurd z (by decide)) _ (fun fr' nu => la_fb h9 (fun _ => ?_) (fun z => absurd z hf))
      exact la_1214 H hi ht P rfl
  | succ k ih =>
    intro i b2 hik q1 q2 q3
    refine pk_le 8 i (fun z => absurd z (by omega)) (fun _ => ?_)
    refine la_partT (by omega) (by decide) (fun c2 e1 e2 => br_t (nI_1 i).symm (nm_r (nI_1 i) (ih (i + 1) c2 (by omega) (fun hf => ⟨by omega, ?_⟩) (fun hf _ => ?_) (fun j j1 j2 => ?_))))
    · rw [e2 0 (q1 hf).1]
      exact (q1 hf).2
    · by_cases e : i = 0
      · rw [← e]
        exact e1
      · rw [e2 0 (by omega)]
        exact q2 hf (by omega)
    · by_cases e : j = i
      · rw [e]
        exact e1
      · rw [e2 j (by omega)]
        exact q3 j j1 (by omega)
/-- the pattern behind the first call of part -/
def la_R (x7 pc : Int32) (a2 : Nat → Int32) : Prop := (la_part x7 → pc = 1 ∧ a2 0 = x7) ∧ (¬ la_part x7 → pc = 0)
theorem la_1003 (H : post 1 ()) (hi : la_item x5) (ht : ¬ x6 < 0 ∧ ¬ 1000 < x6) (P : la_P 1 x5 x6 a3 a4 a5 a6 a7 a8 a9) (Q : la_Q x5 a5 a6 a10 a11 a12 a13 a15) (R : la_R x7 pc a2) (h9 : la_fl (la_part x7) x9) (h13 : la_fl (la_part x7 ∧ la_M x5 x7) x13) :
    ∀ k j b1, j + k = 8 → wL_lawOf_1003 post mc ms x5 x6 x9 x13 kc ks (k + 1) (nI (j + 1)) (nI j) pc 1 1 nd fi ft fr b1 a2 a3 a4 a5 a6 a7 a8 a9 a10 a11 a12 a13 a14 a15 a16 a17 a18 a19 a20 := by
  intro k
  induction k with
  | zero =>
    intro j b1 hj
    have e : j = 8 := by omega
    subst e
    refine pk_le 9 9 (fun _ => ?_) (fun z => absurd z (by omega))
    refine la_item8 (by decide) (br_t rfl (la_itemF (by decide) (br_t rfl (lo_recall P (fun fr' re nu c1 e1 => br_t rfl ?_)))))
    refine la_wOld (P.1 0 (by omega)) ht.1 rfl (br_t rfl (la_w12 P Q hi ht e1 (fun b3 b4 b5 b6 b9 b10 b11 P2 => br_t rfl ?_)))
    refine ld_members (P2.2.1 1 (by omega)) (P2.2.2.2.2.1.trans (by decide)) (br_t rfl (ld_group (P2.2.1 1 (by omega)) (P2.2.2.2.2.1.trans (by decide)) (br_t rfl (ld_wNone ht (P2.1 1 (by omega)) (br_t rfl (la_fb h9 (fun hf => ⟨9, ?_⟩) (fun hf => ⟨8, ?_⟩)))))))
    · have e0 := R.2 hf
      subst e0
      exact la_1135 H hi ht P2 h9 h13 8 0 a2 (by omega) (fun z => absurd z hf) (fun _ z => absurd z (by omega)) (fun j _ z => absurd z (by omega))
    · obtain ⟨e0, e2⟩ := R.1 hf
      subst e0
      exact la_1135 H hi ht P2 h9 h13 7 1 a2 (by omega) (fun _ => ⟨by omega, e2⟩) (fun z => absurd hf z) (fun j _ z => absurd z (by omega))
  | succ k ih =>
    intro j b1 hj
    refine pk_le 9 (j + 1) (fun z => absurd z (by omega)) (fun _ => ?_)
    exact la_itemT (by omega) (by decide) (fun c1 _ => br_t rfl (nm_r (nI_1 (j + 1)) (ih (j + 1) c1 (by omega))))
end
end
section
/-! the law: one line -/
section
variable {dc pc ln sh nd fi : Int32} {ft : Int64} {fr : Int32} {a1 a2 a3 a4 a5 a6 a7 a8 : Nat → Int32} {a9 : Nat → Int64} {a10 : Nat → Int32} {a11 : Nat → Int64} {a12 a13 a14 a15 a16 a17 a18 a19 a20 : Nat → Int32} {post : Int32 → St0 → Prop} {mc ms kc ks : Nat} {x3 x5 x6 x7 x9 x12 x13 z0 z1 : Int32}
theorem la_947 {n : Nat} {w w' : Int32} (P : la_P 1 x5 x6 a3 a4 a5 a6 a7 a8 a9) (e : w + 1 = w') (hB : (w < 0 ∨ ¬ w ≤ 3) → z0 = -1) (hW : ¬ w < 0 → w ≤ 3 → ¬ la_num x5 → z0 = -2) (h3 : w = 3 → la_num x5 → z0 = 1) (hT : ¬ w < 0 → w ≤ 3 → ¬ w = 3 → la_num x5 → z0 = x5 - 1000)
    (h : ∀ fr' nu re, wL_lawOf_900 post mc ms x5 x6 x9 x12 x13 kc ks n w' dc pc 1 1 nd fi ft fr' a1 a2 a3 a4 a5 a6 a7 a8 a9 a10 a11 a12 a13 a14 a15 a16 nu re a19 a20) : wL_lawOf_947 post mc ms (wL_lawOf_900 post mc ms x5 x6 x9 x12 x13 kc ks n) x5 x6 x9 x12 x13 w z0 kc ks dc pc 1 1 nd fi ft fr a1 a2 a3 a4 a5 a6 a7 a8 a9 a10 a11 a12 a13 a14 a15 a16 a17 a18 a19 a20 := by
  have p4 : a4 0 = 0 := P.2.1 0 (by omega)
  have p7 : a7 0 = 1 := P.2.2.1
  have good : ∀ fr' nu re, wL_lawOf_989 post mc ms (wL_lawOf_900 post mc ms x5 x6 x9 x12 x13 kc ks n) x5 x6 x9 x12 x13 w (-2) (-2) kc ks dc pc 1 1 nd fi ft fr' a1 a2 a3 a4 a5 a6 a7 a8 a9 a10 a11 a12 a13 a14 a15 a16 nu re a19 a20 := fun fr' nu re => br_t rfl (nm_r e (h fr' nu re))
  have bad : ∀ fr' nu re, wL_lawOf_983 post mc ms (wL_lawOf_900 post mc ms x5 x6 x9 x12 x13 kc ks n) x5 x6 x9 x12 x13 w (-1) kc ks dc pc 1 1 nd fi ft fr' a1 a2 a3 a4 a5 a6 a7 a8 a9 a10 a11 a12 a13 a14 a15 a16 nu re a19 a20 := fun fr' nu re => by
    unfold wL_lawOf_983
    exact br_t rfl (nm_r e (h fr' nu re))
  unfold wL_lawOf_947
  refine lo_column0 P (fun a => br_t (hB a).symm ?_) (fun a b c => br_t (hW a b c).symm ?_) (fun a b fr' nu re => br_t (h3 a b).symm ?_) (fun a b c d fr' nu => br_t (hT a b c d).symm ?_)
  · exact lo_column1 p4 p7 (fun b => br_c (fun _ => bad _ _ _) (fun a => br_f (b.resolve_left a) (bad _ _ _))) (fun a b => br_f a (br_t b (good _ _ _)))
  · exact lo_column1 p4 p7 (fun b => br_c (fun _ => bad _ _ _) (fun a => br_f (b.resolve_left a) (bad _ _ _))) (fun a b => br_f a (br_t b (good _ _ _)))
  · exact lo_column1 p4 p7 (fun b => br_c (fun _ => bad _ _ _) (fun a => br_f (b.resolve_left a) (bad _ _ _))) (fun a b => br_f a (br_t b (good _ _ _)))
  · exact lo_column1 p4 p7 (fun b => br_c (fun _ => bad _ _ _) (fun a => br_f (b.resolve_left a) (bad _ _ _))) (fun a b => br_f a (br_t b (good _ _ _)))
theorem la_900s {n : Nat} {w w' : Int32} (P : la_P 1 x5 x6 a3 a4 a5 a6 a7 a8 a9) (h12 : la_fl (la_num x5) x12) (hw : ¬ 5 ≤ w) (e : w + 1 = w')
    (h : ∀ fr' nu re, wL_lawOf_900 post mc ms x5 x6 x9 x12 x13 kc ks n w' dc pc 1 1 nd fi ft fr' a1 a2 a3 a4 a5 a6 a7 a8 a9 a10 a11 a12 a13 a14 a15 a16 nu re a19 a20) : wL_lawOf_900 post mc ms x5 x6 x9 x12 x13 kc ks (n + 1) w dc pc 1 1 nd fi ft fr a1 a2 a3 a4 a5 a6 a7 a8 a9 a10 a11 a12 a13 a14 a15 a16 a17 a18 a19 a20 := by
  have bad : (w < 0 ∨ ¬ w ≤ 3) → wL_lawOf_917 post mc ms (wL_lawOf_900 post mc ms x5 x6 x9 x12 x13 kc ks n) x5 x6 x9 x12 x13 w kc ks dc pc 1 1 nd fi ft fr a1 a2 a3 a4 a5 a6 a7 a8 a9 a10 a11 a12 a13 a14 a15 a16 a17 a18 a19 a20 := fun hb => by
    have ne : ¬ w = 3 := fun a => by
      rw [a] at hb
      exact absurd hb (by decide)
    unfold wL_lawOf_917
    exact la_947 P e (fun _ => rfl) (fun a b _ => absurd b (hb.resolve_left a)) (fun a _ => absurd a ne) (fun a b _ _ => absurd b (hb.resolve_left a)) h
  refine br_f hw (br_c (fun a => bad (Or.inl a)) (fun a => br_c (fun b => la_fb h12 (fun hn => ?_) (fun hn => br_c (fun c => ?_) (fun c => ?_))) (fun b => bad (Or.inr b))))
  · exact la_947 P e (fun z => absurd (z.resolve_left a) (fun q => q b)) (fun _ _ _ => rfl) (fun _ z => absurd z hn) (fun _ _ _ z => absurd z hn) h
  · exact la_947 P e (fun z => absurd (z.resolve_left a) (fun q => q b)) (fun _ _ z => absurd hn z) (fun _ _ => rfl) (fun _ _ z _ => absurd c z) h
  · exact la_947 P e (fun z => absurd (z.resolve_left a) (fun q => q b)) (fun _ _ z => absurd hn z) (fun z _ => absurd z c) (fun _ _ _ _ => rfl) h
theorem la_892 (H : post 1 ()) (hi : la_item x5) (ht : ¬ x6 < 0 ∧ ¬ 1000 < x6) (P : la_P 1 x5 x6 a3 a4 a5 a6 a7 a8 a9) (Q : la_Q x5 a5 a6 a10 a11 a12 a13 a15) (R : la_R x7 pc a2) (h9 : la_fl (la_part x7) x9) (h12 : la_fl (la_num x5) x12) (h13 : la_fl (la_part x7 ∧ la_M x5 x7) x13) (hz : z1 = z0) :
    wL_lawOf_892 post mc ms x5 x6 x9 x12 x13 z0 z1 kc ks 0 pc 1 1 nd fi ft fr a1 a2 a3 a4 a5 a6 a7 a8 a9 a10 a11 a12 a13 a14 a15 a16 a17 a18 a19 a20 := by
  refine br_t hz ⟨7, la_900s (w' := 0) P h12 (by decide) (by decide) (fun _ _ _ => la_900s (w' := 1) P h12 (by decide) (by decide) (fun _ _ _ => la_900s (w' := 2) P h12 (by decide) (by decide) (fun _ _ _ => la_900s (w' := 3) P h12 (by decide) (by decide) (fun _ _ _ => la_900s (w' := 4) P h12 (by decide) (by decide) (fun _ _ _ => la_900s (w' := 5) P h12 (by decide) (by decide) (fun _ _ _ => br_t (by decide) ⟨9, ?_⟩))))))⟩
  exact la_1003 H hi ht P Q R h9 h13 8 0 a1 (by omega)
theorem la_873 (H : post 1 ()) (hi : la_item x5) (ht : ¬ x6 < 0 ∧ ¬ 1000 < x6) (P : la_P 1 x5 x6 a3 a4 a5 a6 a7 a8 a9) (Q : la_Q x5 a5 a6 a10 a11 a12 a13 a15) (R : la_R x7 pc a2) (h9 : la_fl (la_part x7) x9) (h12 : la_fl (la_num x5) x12) (h13 : la_fl (la_part x7 ∧ la_M x5 x7) x13) (hz : z1 = z0) :
    wL_lawOf_873 post mc ms x3 x5 x6 x9 x12 x13 z0 z1 kc ks 0 pc 1 1 nd fi ft fr a1 a2 a3 a4 a5 a6 a7 a8 a9 a10 a11 a12 a13 a14 a15 a16 a17 a18 a19 a20 :=
  br_t hz (lo_burst (fun a => br_t a (la_892 H hi ht P Q R h9 h12 h13 rfl)) (fun a => br_f a (la_892 H hi ht P Q R h9 h12 h13 rfl)))
theorem la_851 (H : post 1 ()) (hi : la_item x5) (ht : ¬ x6 < 0 ∧ ¬ 1000 < x6) (P : la_P 1 x5 x6 a3 a4 a5 a6 a7 a8 a9) (Q : la_Q x5 a5 a6 a10 a11 a12 a13 a15) (R : la_R x7 pc a2) (h9 : la_fl (la_part x7) x9) (h12 : la_fl (la_num x5) x12) (h13 : la_fl (la_part x7 ∧ la_M x5 x7) x13) (hz : z1 = z0) :
    wL_lawOf_851 post mc ms x3 x5 x6 x9 x12 x13 z0 z1 kc ks 0 pc 1 1 nd fi ft fr a1 a2 a3 a4 a5 a6 a7 a8 a9 a10 a11 a12 a13 a14 a15 a16 a17 a18 a19 a20 :=
  br_t hz (lo_between (P.1 0 (by omega)) ht.2 (fun a => br_f (Int32.not_lt.mpr a) (la_873 H hi ht P Q R h9 h12 h13 rfl)) (fun a => br_t (Int32.not_le.mp a) (la_873 H hi ht P Q R h9 h12 h13 rfl)))
/-- what the fitting lines are, for the law -/
def la_F (x5 x7 : Int32) (F : Int64) : Prop := ((la_part x7 ∧ la_M x5 x7) → F = 1) ∧ (¬ (la_part x7 ∧ la_M x5 x7) → F = 0)
theorem la_F01 {F : Int64} (h : la_F x5 x7 F) : F = 0 ∨ F = 1 := by
  by_cases m : la_part x7 ∧ la_M x5 x7
  · exact Or.inr (h.1 m)
  · exact Or.inl (h.2 m)
theorem la_818 {F : Int64} (H : post 1 ()) (hi : la_item x5) (ht : ¬ x6 < 0 ∧ ¬ 1000 < x6) (P : la_P 1 x5 x6 a3 a4 a5 a6 a7 a8 a9) (Q : la_Q x5 a5 a6 a10 a11 a12 a13 a15) (R : la_R x7 pc a2) (h9 : la_fl (la_part x7) x9) (h12 : la_fl (la_num x5) x12) (h13 : la_fl (la_part x7 ∧ la_M x5 x7) x13) (hF : la_F x5 x7 F) (hz : z1 = z0) :
    wL_lawOf_818 post mc ms x3 x5 x6 x9 x12 x13 z0 z1 kc ks 0 pc 1 1 nd 1 F fr a1 a2 a3 a4 a5 a6 a7 a8 a9 a10 a11 a12 a13 a14 a15 a16 a17 a18 a19 a20 := by
  have h3 : a3 0 = x6 := P.1 0 (by omega)
  have tle : x6 ≤ 1000 := Int32.not_lt.mp ht.2
  refine br_t hz (la_fitting (F := F) (b := 1) (e := 1) (r := 0) (fun Q h => la_fitD h) (fun fr' nu Q q => la_cb1 h3 (fun _ => q) (fun z => absurd ((la_ltS tle).mpr (Int32.le_refl _)) z)) (fun fr' nu Q q => la_cu1 h3 ht.2 (fun _ => q) (fun z => absurd (Int32.le_trans tle (by decide)) z)) (Or.inl ⟨by decide, rfl⟩) (fun fr' nu => br_t rfl ?_))
  refine lo_fgroups (F := F) (P.2.2.2.2.1.trans (by decide)) (fun Q h => la_fitD h) (la_F01 hF) (fun r fr2 nu2 r0 r1 => la_fb h13 (fun m => ?_) (fun m => ?_))
  · exact la_851 H hi ht P Q R h9 h12 h13 (r0 (hF.2 m))
  · exact la_851 H hi ht P Q R h9 h12 h13 (r1 (hF.1 m))
theorem la_785 {F : Int64} (H : post 1 ()) (hi : la_item x5) (ht : ¬ x6 < 0 ∧ ¬ 1000 < x6) (P : la_P 1 x5 x6 a3 a4 a5 a6 a7 a8 a9) (Q : la_Q x5 a5 a6 a10 a11 a12 a13 a15) (R : la_R x7 pc a2) (h9 : la_fl (la_part x7) x9) (h12 : la_fl (la_num x5) x12) (h13 : la_fl (la_part x7 ∧ la_M x5 x7) x13) (hF : la_F x5 x7 F) (hz : z1 = z0) :
    wL_lawOf_785 post mc ms x3 x5 x6 x9 x12 x13 z0 z1 kc ks 0 pc 1 1 nd 1 F fr a1 a2 a3 a4 a5 a6 a7 a8 a9 a10 a11 a12 a13 a14 a15 a16 a17 a18 a19 a20 := by
  have h3 : a3 0 = x6 := P.1 0 (by omega)
  refine br_t hz (la_next (F := F) (fun Q h => la_fitD h) (fun z fr' nu hn => la_nxN ?_ (by decide) (br_t rfl ?_)))
  · have ez : z = 1 := by
      rcases hn with ⟨_, _, e⟩ | ⟨_, e, _⟩ | ⟨e, _⟩
      · rw [e]; decide
      · exact absurd (show (0 : Int32) < 60 by decide) e
      · exact absurd (show (0 : Int32) ≤ 0 by decide) e
    rw [ez]
    rcases la_F01 hF with e | e
    · rw [e]; decide
    · rw [e]; decide
  · have key : ∀ r : Int32, (F = 0 → r = 0) → (F = 1 → r = 1) → ∀ K : Int32 → St2 → Prop, (∀ fr2 nu2, K r (0, pc, 1, 1, nd, 1, F, fr2, a1, a2, a3, a4, a5, a6, a7, a8, a9, a10, a11, a12, a13, a14, a15, a16, nu2, a18, a19, a20)) → wpX_fitting K (0, pc, 1, 1, nd, 1, F, fr', a1, a2, a3, a4, a5, a6, a7, a8, a9, a10, a11, a12, a13, a14, a15, a16, nu, a18, a19, a20) x6 x6 := by
      intro r r0 r1 K hK
      refine la_fitting (F := F) (b := 0) (e := 1) (r := r) (fun Q h => la_fitD h) (fun fr2 nu2 Q q => la_cb1 h3 (fun z => absurd z Int32.lt_irrefl) (fun _ => q)) (fun fr2 nu2 Q q => la_cu1 h3 ht.2 (fun _ => q) (fun z => absurd (Int32.le_refl _) z)) (Or.inr ⟨by decide, ?_⟩) hK
      rcases la_F01 hF with e | e
      · rw [r0 e, e]; decide +kernel
      · rw [r1 e, e]; decide +kernel
    by_cases m : la_part x7 ∧ la_M x5 x7
    · have e := hF.1 m
      exact key 1 (fun z => absurd (e.symm.trans z) (by decide)) (fun _ => rfl) _ (fun fr2 nu2 => la_fb h13 (fun z => absurd m z) (fun _ => la_818 H hi ht P Q R h9 h12 h13 hF rfl))
    · have e := hF.2 m
      exact key 0 (fun _ => rfl) (fun z => absurd (e.symm.trans z) (by decide)) _ (fun fr2 nu2 => la_fb h13 (fun _ => la_818 H hi ht P Q R h9 h12 h13 hF rfl) (fun z => absurd z m))
/-- the first fitting over one line -/
theorem la_fitL {K : St2 → Prop} {F : Int64} (hi : la_item x5) (P : la_P 1 x5 x6 a3 a4 a5 a6 a7 a8 a9) (R : la_R x7 pc a2) (hF : la_F x5 x7 F) (h : ∀ fr' nu, K (dc, pc, 1, 1, nd, 1, F, fr', a1, a2, a3, a4, a5, a6, a7, a8, a9, a10, a11, a12, a13, a14, a15, a16, nu, a18, a19, a20)) : wpX_fit K (dc, pc, 1, 1, nd, 0, ft, fr, a1, a2, a3, a4, a5, a6, a7, a8, a9, a10, a11, a12, a13, a14, a15, a16, a17, a18, a19, a20) := by
  by_cases hf : la_part x7
  · obtain ⟨e0, e2⟩ := R.1 hf
    subst e0
    have mm : la_mm x5 (a2 0) ↔ la_M x5 x7 := by rw [e2]; exact la_meets hi hf
    exact la_fit (n := 1) (N := 1) (Or.inl rfl) (Or.inr (Or.inl rfl)) P (fun j h1 h2 => absurd h2 (by omega)) (fun _ m => (hF.1 ⟨hf, mm.mp m⟩).trans (by decide)) (fun m => hF.2 (fun z => m ⟨by decide, mm.mpr z.2⟩)) h
  · have e0 := R.2 hf
    subst e0
    exact la_fit (n := 1) (N := 0) (Or.inl rfl) (Or.inl rfl) P (fun j h1 h2 => absurd h2 (by omega)) (fun z => absurd rfl z) (fun _ => hF.2 (fun z => hf z.1)) h
theorem la_625 (H : post 1 ()) (hi : la_item x5) (ht : ¬ x6 < 0 ∧ ¬ 1000 < x6) (P : la_P 1 x5 x6 a3 a4 a5 a6 a7 a8 a9) (Q : la_Q x5 a5 a6 a10 a11 a12 a13 a15) (R : la_R x7 pc a2) (h9 : la_fl (la_part x7) x9) (h12 : la_fl (la_num x5) x12) (h13 : la_fl (la_part x7 ∧ la_M x5 x7) x13) :
    wL_lawOf_625 post mc ms x3 x5 x6 x9 x12 x13 kc ks 0 pc 1 1 nd 0 ft fr a1 a2 a3 a4 a5 a6 a7 a8 a9 a10 a11 a12 a13 a14 a15 a16 a17 a18 a19 a20 := by
  have p3 : a3 0 = x6 := P.1 0 (by omega)
  have p4 : a4 0 = 0 := P.2.1 0 (by omega)
  have p7 : a7 0 = 1 := P.2.2.1
  have p9 : a9 0 = 1 := P.2.2.2.2.1.trans (by decide)
  have h11 : ¬ la_num x5 → a11 x5.toNatClampNeg = 1 := by
    obtain ⟨b, _, _, _, _, qw, _⟩ := Q
    exact qw
  unfold wL_lawOf_625
  refine br_t rfl (lo_time p3 (br_t rfl (lo_length p4 p7 (br_t rfl (lo_at0 P (fun f1 r1 n1 => br_t rfl ?_))))))
  refine lo_at1 p4 p7 (br_t rfl (br_t rfl (lo_group p4 p9 (br_t rfl (lo_members p4 p9 (br_t rfl ?_))))))
  refine lo_largest p9 (fun _ => br_t rfl ?_) (fun z => absurd rfl z)
  refine lo_largest p9 (fun z => absurd z (by decide)) (fun _ => br_t rfl ?_)
  refine lo_largest p9 (fun z => absurd z (by decide)) (fun _ => br_t rfl ?_)
  refine lo_having P hi h11 (fun f2 n2 => br_t rfl (lo_digest P (fun f3 r3 n3 => br_t rfl ?_)))
  by_cases m : la_part x7 ∧ la_M x5 x7
  · have hF : la_F x5 x7 1 := ⟨fun _ => rfl, fun z => absurd m z⟩
    refine la_next (F := 1) (fun K h => la_fitL hi P R hF h) (fun z fr' nu hn => ?_)
    have ez : z = 0 := by
      rcases hn with ⟨e, _, _⟩ | ⟨e, _, _⟩ | ⟨_, e⟩
      · exact absurd e (by decide)
      · exact absurd e (by decide)
      · exact e
    subst ez
    exact la_nx0 (la_fb h13 (fun z => absurd m z) (fun _ => la_785 H hi ht P Q R h9 h12 h13 hF rfl))
  · have hF : la_F x5 x7 0 := ⟨fun z => absurd z m, fun _ => rfl⟩
    refine la_next (F := 0) (fun K h => la_fitL hi P R hF h) (fun z fr' nu hn => ?_)
    exact la_nxN Int64.zero_and (by decide) (la_fb h13 (fun _ => la_785 H hi ht P Q R h9 h12 h13 hF rfl) (fun z => absurd z m))
theorem la_592 (H : post 1 ()) (hi : la_item x5) (ht : ¬ x6 < 0 ∧ ¬ 1000 < x6) (P : la_P 1 x5 x6 a3 a4 a5 a6 a7 a8 a9) (Q : la_Q x5 a5 a6 a10 a11 a12 a13 a15) (R : la_R x7 pc a2) (h9 : la_fl (la_part x7) x9) (h12 : la_fl (la_num x5) x12) (hf : la_part x7) (n1 : ¬ x7 = x5) (n2 : ¬ x7 = 2000) (n3 : ¬ x7 = 2002) (n4 : ¬ (x7 = 2001 ∧ la_num x5)) :
    wL_lawOf_592 post mc ms x3 x5 x6 x7 x9 x12 kc ks 0 pc 1 1 nd 0 ft fr a1 a2 a3 a4 a5 a6 a7 a8 a9 a10 a11 a12 a13 a14 a15 a16 a17 a18 a19 a20 := by
  have no : ¬ (¬ x7 ≤ 2999 ∧ la_num x5 ∧ ¬ (x5 - 1000) ≤ (x7 - 3000)) → wL_lawOf_624 post mc ms x3 x5 x6 x9 x12 kc ks 0 pc 1 1 nd 0 ft fr a1 a2 a3 a4 a5 a6 a7 a8 a9 a10 a11 a12 a13 a14 a15 a16 a17 a18 a19 a20 := fun n5 => by
    unfold wL_lawOf_624
    refine la_625 H hi ht P Q R h9 h12 (la_fF ?_)
    rintro ⟨_, z | z | z | z | z⟩
    · exact n1 z
    · exact n2 z
    · exact n3 z
    · exact n4 z
    · exact n5 z
  refine br_c (fun a => no (fun z => z.1 a)) (fun a => la_fb h12 (fun hn => no (fun z => hn z.2.1)) (fun hn => br_c (fun b => no (fun z => z.2.2 b)) (fun b => ?_)))
  unfold wL_lawOf_620
  exact la_625 H hi ht P Q R h9 h12 (la_fT ⟨hf, Or.inr (Or.inr (Or.inr (Or.inr ⟨a, hn, b⟩)))⟩)
theorem la_549 (H : post 1 ()) (hi : la_item x5) (ht : ¬ x6 < 0 ∧ ¬ 1000 < x6) (P : la_P 1 x5 x6 a3 a4 a5 a6 a7 a8 a9) (Q : la_Q x5 a5 a6 a10 a11 a12 a13 a15) (R : la_R x7 pc a2) (h9 : la_fl (la_part x7) x9) (h12 : la_fl (la_num x5) z0) :
    wL_lawOf_549 post mc ms x3 x5 x6 x7 x9 z0 kc ks 0 pc 1 1 nd 0 ft fr a1 a2 a3 a4 a5 a6 a7 a8 a9 a10 a11 a12 a13 a14 a15 a16 a17 a18 a19 a20 := by
  have yes : la_part x7 ∧ la_M x5 x7 → wL_lawOf_620 post mc ms x3 x5 x6 x9 z0 kc ks 0 pc 1 1 nd 0 ft fr a1 a2 a3 a4 a5 a6 a7 a8 a9 a10 a11 a12 a13 a14 a15 a16 a17 a18 a19 a20 := fun m => by
    unfold wL_lawOf_620
    exact la_625 H hi ht P Q R h9 h12 (la_fT m)
  refine la_fb h9 (fun hf => ?_) (fun hf => br_c (fun a => yes ⟨hf, Or.inl a⟩) (fun a => br_c (fun b => yes ⟨hf, Or.inr (Or.inl b)⟩) (fun b => br_c (fun c => yes ⟨hf, Or.inr (Or.inr (Or.inl c))⟩) (fun c => br_c (fun d => la_fb h12 (fun hn => ?_) (fun hn => yes ⟨hf, Or.inr (Or.inr (Or.inr (Or.inl ⟨d, hn⟩)))⟩)) (fun d => ?_)))))
  · unfold wL_lawOf_624
    exact la_625 H hi ht P Q R h9 h12 (la_fF (fun z => hf z.1))
  · exact la_592 H hi ht P Q R h9 h12 hf a b c (fun z => hn z.2)
  · exact la_592 H hi ht P Q R h9 h12 hf a b c (fun z => d z.1)
end
end
section
/-! the law: no line yet; the whole -/
section
variable {dc pc ln sh nd fi : Int32} {ft : Int64} {fr : Int32} {a1 a2 a3 a4 a5 a6 a7 a8 : Nat → Int32} {a9 : Nat → Int64} {a10 : Nat → Int32} {a11 : Nat → Int64} {a12 a13 a14 a15 a16 a17 a18 a19 a20 : Nat → Int32} {post : Int32 → St0 → Prop} {mc ms kc ks : Nat} {x0 x1 x2 x3 x5 x6 x7 x8 x9 x10 x12 x13 z0 z1 : Int32}
abbrev la_now (x : Int32) : Prop := ¬ x < 0 ∧ ¬ 1000 < x
theorem la_497F (H : post 1 ()) (R : la_R x7 pc a2) (h9 : la_fl (la_part x7) x9) : wL_lawOf_497 post mc ms x3 x5 x6 x7 x9 0 kc ks dc pc 0 sh nd fi ft fr a1 a2 a3 a4 a5 a6 a7 a8 a9 a10 a11 a12 a13 a14 a15 a16 a17 a18 a19 a20 := by
  refine br_t rfl (br_t rfl (la_blank (la_fb h9 (fun hf => br_t ?_ H) (fun hf => br_t ?_ H))))
  · exact R.2 hf
  · exact (R.1 hf).1
theorem la_497T (H : post 1 ()) (hi : la_item x5) (ht : la_now x6) (P : la_P 1 x5 x6 a3 a4 a5 a6 a7 a8 a9) (Q : la_Q x5 a5 a6 a10 a11 a12 a13 a15) (R : la_R x7 pc a2) (h9 : la_fl (la_part x7) x9) : wL_lawOf_497 post mc ms x3 x5 x6 x7 x9 1 kc ks 0 pc 1 1 nd 0 ft fr a1 a2 a3 a4 a5 a6 a7 a8 a9 a10 a11 a12 a13 a14 a15 a16 a17 a18 a19 a20 :=
  br_f (by decide) (br_c (fun a => la_549 H hi ht P Q R h9 (la_fF (fun z => z.1 a))) (fun a => la_549 H hi ht P Q R h9 (la_fT (hi.resolve_left (fun w => a (la_wlt w))))))
theorem la_477F (H : post 1 ()) (R : la_R x7 pc a2) (h8 : la_fl (la_item x5) x8) (h9 : la_fl (la_part x7) x9) (h10 : la_fl (la_now x6) x10) (hn : ¬ (la_now x6 ∧ la_item x5)) (hz : z1 = z0) : wL_lawOf_477 post mc ms x3 x5 x6 x7 x8 x9 x10 z0 z1 kc ks dc pc 0 sh nd fi ft fr a1 a2 a3 a4 a5 a6 a7 a8 a9 a10 a11 a12 a13 a14 a15 a16 a17 a18 a19 a20 := by
  have t : wL_lawOf_496 post mc ms x3 x5 x6 x7 x9 kc ks dc pc 0 sh nd fi ft fr a1 a2 a3 a4 a5 a6 a7 a8 a9 a10 a11 a12 a13 a14 a15 a16 a17 a18 a19 a20 := by
    unfold wL_lawOf_496
    exact la_497F H R h9
  exact br_t hz (la_fb h10 (fun _ => t) (fun a => la_fb h8 (fun _ => t) (fun b => absurd ⟨a, b⟩ hn)))
theorem la_477T (H : post 1 ()) (hi : la_item x5) (ht : la_now x6) (P : la_P 1 x5 x6 a3 a4 a5 a6 a7 a8 a9) (Q : la_Q x5 a5 a6 a10 a11 a12 a13 a15) (R : la_R x7 pc a2) (h8 : la_fl (la_item x5) x8) (h9 : la_fl (la_part x7) x9) (h10 : la_fl (la_now x6) x10) (hz : z1 = z0) : wL_lawOf_477 post mc ms x3 x5 x6 x7 x8 x9 x10 z0 z1 kc ks 0 pc 1 1 nd 0 ft fr a1 a2 a3 a4 a5 a6 a7 a8 a9 a10 a11 a12 a13 a14 a15 a16 a17 a18 a19 a20 :=
  br_t hz (la_fb h10 (fun z => absurd ht z) (fun _ => la_fb h8 (fun z => absurd hi z) (fun _ => la_497T H hi ht P Q R h9)))
theorem la_447 (H : post 1 ()) (E : la_E a5 a11 a13) (hd : (la_item x5 ∧ dc = 1 ∧ a1 0 = x5) ∨ (¬ la_item x5 ∧ dc = 0)) (R : la_R x7 pc a2) (h8 : la_fl (la_item x5) x8) (h9 : la_fl (la_part x7) x9) (h10 : la_fl (la_now x6) x10) (hz : z1 = z0) : wL_lawOf_447 post mc ms x3 x5 x6 x7 x8 x9 x10 z0 z1 kc ks dc pc 0 0 1 fi ft fr a1 a2 a3 a4 a5 a6 a7 a8 a9 a10 a11 a12 a13 a14 a15 a16 a17 a18 a19 a20 := by
  refine br_t hz ?_
  by_cases ht : la_now x6
  · rcases hd with ⟨hi, e, e1⟩ | ⟨hi, e⟩
    · subst e
      exact la_w01 E hi ht e1 (fun b3 b4 b5 b6 b7 b8 b9 b10 b11 b12 b13 b14 b15 P Q => la_fb h10 (fun z => absurd ht z) (fun _ => la_fb h8 (fun z => absurd hi z) (fun _ => la_477T H hi ht P Q R h8 h9 h10 rfl)))
    · subst e
      exact lz_wNone ht (la_fb h10 (fun z => absurd ht z) (fun _ => la_fb h8 (fun _ => la_477F H R h8 h9 h10 (fun z => hi z.2) rfl) (fun z => absurd z hi)))
  · exact la_wBad ht (la_fb h10 (fun _ => la_477F H R h8 h9 h10 (fun z => ht z.1) rfl) (fun z => absurd z ht))
theorem la_427 (H : post 1 ()) (E : la_E a5 a11 a13) (hd : (la_item x5 ∧ dc = 1 ∧ a1 0 = x5) ∨ (¬ la_item x5 ∧ dc = 0)) (h8 : la_fl (la_item x5) x8) (h9 : la_fl (la_part x7) x9) (h10 : la_fl (la_now x6) x10) (hz : z1 = z0) : wL_lawOf_427 post mc ms x3 x5 x6 x7 x8 x9 x10 z0 z1 kc ks dc 0 0 0 1 fi ft fr a1 a2 a3 a4 a5 a6 a7 a8 a9 a10 a11 a12 a13 a14 a15 a16 a17 a18 a19 a20 := by
  refine br_t hz ?_
  by_cases hf : la_part x7
  · exact la_partT (k := 0) (by omega) hf (fun c2 e _ => la_fb h9 (fun z => absurd hf z) (fun _ => la_447 H E hd ⟨fun _ => ⟨rfl, e⟩, fun z => absurd hf z⟩ h8 h9 h10 rfl))
  · exact la_partF hf (la_fb h9 (fun _ => la_447 H E hd ⟨fun z => absurd z hf, fun _ => rfl⟩ h8 h9 h10 rfl) (fun z => absurd z hf))
theorem la_405 (H : post 1 ()) (E : la_E a5 a11 a13) (h8 : la_fl (la_item x5) x8) (h9 : la_fl (la_part x7) x9) (h10 : la_fl (la_now x6) x10) (hz : z1 = z0) : wL_lawOf_405 post mc ms x3 x5 x6 x7 x8 x9 x10 z0 z1 kc ks 0 0 0 0 1 fi ft fr a1 a2 a3 a4 a5 a6 a7 a8 a9 a10 a11 a12 a13 a14 a15 a16 a17 a18 a19 a20 := by
  refine br_t hz ?_
  by_cases hi : la_item x5
  · exact la_itemT (k := 0) (by omega) hi (fun c1 e => la_fb h8 (fun z => absurd hi z) (fun _ => la_427 H E (Or.inl ⟨hi, rfl, e⟩) h8 h9 h10 rfl))
  · exact la_itemF hi (la_fb h8 (fun _ => la_427 H E (Or.inr ⟨hi, rfl⟩) h8 h9 h10 rfl) (fun z => absurd z hi))
theorem la_376 (H : post 1 ()) (E : la_E a5 a11 a13) (h8 : la_fl (la_item x5) x8) (h9 : la_fl (la_part x7) x9) (h10 : la_fl (la_now x6) x10) (hz : z1 = z0) : wL_lawOf_376 post mc ms x3 x5 x6 x7 x8 x9 x10 z0 z1 kc ks 0 0 0 0 1 fi ft fr a1 a2 a3 a4 a5 a6 a7 a8 a9 a10 a11 a12 a13 a14 a15 a16 a17 a18 a19 a20 := by
  refine br_t hz (lz_digest (br_t rfl ?_))
  by_cases ht : la_now x6
  · exact lz_wNone ht (la_fb h10 (fun z => absurd ht z) (fun _ => la_405 H E h8 h9 h10 rfl))
  · exact la_wBad ht (la_fb h10 (fun _ => la_405 H E h8 h9 h10 rfl) (fun z => absurd z ht))
theorem la_310 (H : post 1 ()) (E : la_E a5 a11 a13) (h8 : la_fl (la_item x5) x8) (h9 : la_fl (la_part x7) x9) (h10 : la_fl (la_now x6) x10) (hz : z1 = z0) : wL_lawOf_310 post mc ms x0 x1 x3 x5 x6 x7 x8 x9 x10 z0 z1 kc ks 0 0 0 0 1 fi ft fr a1 a2 a3 a4 a5 a6 a7 a8 a9 a10 a11 a12 a13 a14 a15 a16 a17 a18 a19 a20 := by
  refine br_t hz (la_blank (br_t rfl ?_))
  refine la_fitting (F := 0) (b := 0) (e := 0) (r := 0) (fun Q h => lz_fit (h fr a17)) (fun fr' nu Q q => la_cb0 q) (fun fr' nu Q q => la_cu0 q) (Or.inl ⟨by decide, rfl⟩) (fun f1 n1 => br_t rfl ?_)
  refine la_next (F := 0) (fun Q h => la_fitD h) (fun z f2 n2 _ => la_nxN Int64.zero_and (by decide) (br_t rfl ?_))
  refine lz_fgroups (F := 0) (fun Q h => la_fitD h) (fun f3 n3 => br_t rfl (lz_between (br_t rfl ?_)))
  exact lz_burst (fun a => br_t a (la_376 H E h8 h9 h10 rfl)) (fun a => br_f a (la_376 H E h8 h9 h10 rfl))
theorem la_180 (H : post 1 ()) (E : la_E a5 a11 a13) (h8 : la_fl (la_item x5) x8) (h9 : la_fl (la_part x7) x9) (h10 : la_fl (la_now x6) z0) : wL_lawOf_180 post mc ms x0 x1 x2 x3 x5 x6 x7 x8 x9 z0 kc ks 0 0 0 0 1 fi ft fr a1 a2 a3 a4 a5 a6 a7 a8 a9 a10 a11 a12 a13 a14 a15 a16 a17 a18 a19 a20 := by
  unfold wL_lawOf_180
  refine lz_recall (br_t rfl (la_expire0 (fun Q q => la_cb0 q) (br_t rfl (br_t rfl ?_))))
  refine lz_time (br_t rfl (lz_length (br_t rfl (lz_at (br_t rfl (br_t rfl ?_))))))
  refine lz_group (br_t rfl (lz_members (br_t rfl (lz_largest (br_t rfl (lz_column (br_t rfl ?_)))))))
  exact lz_having E.2.1 (fun hi => la_fb h8 (fun z => absurd hi z) (fun _ => la_310 H E h8 h9 h10 rfl)) (fun hi => la_fb h8 (fun _ => la_310 H E h8 h9 h10 rfl) (fun z => absurd z hi))
theorem la_160 (H : post 1 ()) (E : la_E a5 a11 a13) (h8 : la_fl (la_item x5) x8) (h9 : la_fl (la_part x7) z0) : wL_lawOf_160 post mc ms x0 x1 x2 x3 x5 x6 x7 x8 z0 kc ks 0 0 0 0 1 fi ft fr a1 a2 a3 a4 a5 a6 a7 a8 a9 a10 a11 a12 a13 a14 a15 a16 a17 a18 a19 a20 := by
  have t : ¬ la_now x6 → wL_lawOf_179 post mc ms x0 x1 x2 x3 x5 x6 x7 x8 z0 kc ks 0 0 0 0 1 fi ft fr a1 a2 a3 a4 a5 a6 a7 a8 a9 a10 a11 a12 a13 a14 a15 a16 a17 a18 a19 a20 := fun hn => by
    unfold wL_lawOf_179
    exact la_180 H E h8 h9 (la_fF hn)
  exact br_c (fun a => t (fun z => z.1 a)) (fun a => br_c (fun b => t (fun z => z.2 b)) (fun b => la_180 H E h8 h9 (la_fT ⟨a, b⟩)))
theorem la_106 (H : post 1 ()) (E : la_E a5 a11 a13) : wL_lawOf_106 post mc ms x0 x1 x2 x3 x5 x6 x7 kc ks 0 0 0 0 1 fi ft fr a1 a2 a3 a4 a5 a6 a7 a8 a9 a10 a11 a12 a13 a14 a15 a16 a17 a18 a19 a20 := by
  unfold wL_lawOf_106
  refine la_isItemL (fun g hg => la_isItemL (fun f hf => ?_))
  have yes : la_part x7 → wL_lawOf_155 post mc ms x0 x1 x2 x3 x5 x6 x7 g kc ks 0 0 0 0 1 fi ft fr a1 a2 a3 a4 a5 a6 a7 a8 a9 a10 a11 a12 a13 a14 a15 a16 a17 a18 a19 a20 := fun h => by
    unfold wL_lawOf_155
    exact la_160 H E hg (la_fT h)
  have no : ¬ la_part x7 → wL_lawOf_159 post mc ms x0 x1 x2 x3 x5 x6 x7 g kc ks 0 0 0 0 1 fi ft fr a1 a2 a3 a4 a5 a6 a7 a8 a9 a10 a11 a12 a13 a14 a15 a16 a17 a18 a19 a20 := fun h => by
    unfold wL_lawOf_159
    exact la_160 H E hg (la_fF h)
  have far : ¬ la_item x7 → ¬ (¬ x7 ≤ 1999 ∧ x7 < 2003) → wL_lawOf_139 post mc ms x0 x1 x2 x3 x5 x6 x7 g kc ks 0 0 0 0 1 fi ft fr a1 a2 a3 a4 a5 a6 a7 a8 a9 a10 a11 a12 a13 a14 a15 a16 a17 a18 a19 a20 := fun h1 h2 =>
    br_c (fun a => no (fun z => (la_partL.mpr z).elim h1 (fun q => q.elim h2 (fun q => q.1 a)))) (fun a => br_c (fun b => no (fun z => (la_partL.mpr z).elim h1 (fun q => q.elim h2 (fun q => q.2 b)))) (fun b => yes (la_partL.mp (Or.inr (Or.inr ⟨a, b⟩)))))
  exact la_fb hf (fun hn => br_c (fun a => far hn (fun z => z.1 a)) (fun a => br_c (fun b => yes (la_partL.mp (Or.inr (Or.inl ⟨a, b⟩)))) (fun b => far hn (fun z => b z.2)))) (fun hy => yes (Or.inl hy))
theorem la_64 (H : post 1 ()) (E : la_E a5 a11 a13) : wL_lawOf_64 post mc ms x0 x1 x2 x3 x5 x6 kc ks 0 0 0 0 1 fi ft fr a1 a2 a3 a4 a5 a6 a7 a8 a9 a10 a11 a12 a13 a14 a15 a16 a17 a18 a19 a20 :=
  br_c (fun _ => la_106 H E) (fun _ => br_c (fun _ => la_106 H E) (fun _ => la_106 H E))
theorem la_45 (H : post 1 ()) (E : la_E a5 a11 a13) : wL_lawOf_45 post mc ms x0 x1 x2 x3 x5 kc ks 0 0 0 0 1 fi ft fr a1 a2 a3 a4 a5 a6 a7 a8 a9 a10 a11 a12 a13 a14 a15 a16 a17 a18 a19 a20 :=
  br_c (fun _ => la_64 H E) (fun _ => la_64 H E)
theorem la_lawOf (H : post 1 ()) : wpL_lawOf post 21 4841 () x0 x1 x2 x3 :=
  ⟨by omega, by omega, 20, 4813, by omega, by omega, la_init (fun b5 b11 b12 b13 b14 b15 E => br_c (fun _ => la_45 H E) (fun _ => br_c (fun _ => la_45 H E) (fun _ => la_45 H E)))⟩
theorem la_cell {post : Int32 → Prop} {L : Nat} {xs : Nat → Int32} (hL : L ≤ 4) (j : Nat) {x : Int32} (hx : x = nI j) (hj : j < 4) (hp : ∀ v, post v) : wpL_cellAt post L xs () x :=
  pk_le L j (fun _ => hp 0) (fun z => And.intro (pk_in j L z hx) (hp _)) rfl hx
end
theorem i_vc (xs : Nat → Int32) (L : Nat) (hL : L ≤ 4) : wpL_law (fun r => r = 1) L xs := by
  unfold wpL_law
  exact la_cell hL 0 rfl (by omega) (fun x => la_cell hL 1 rfl (by omega) (fun y => la_cell hL 2 rfl (by omega) (fun z => la_cell hL 3 rfl (by omega) (fun w => ⟨21, 4841, by omega, by omega, la_lawOf rfl⟩))))
end
