section
/-! Int32 by its bits (these rows began as the kit's BITS.to-paste, renamed) -/
def mv_t (x : Int32) (i : Nat) : Bool := x.toBitVec.getLsbD i
theorem mv_ext {x y : Int32} (h : ∀ i, i < 32 → mv_t x i = mv_t y i) : x = y := Int32.toBitVec_inj.mp (BitVec.eq_of_getLsbD_eq (fun i hi => h i hi))
theorem mv_or (x y : Int32) (i : Nat) : mv_t (x ||| y) i = (mv_t x i || mv_t y i) := by unfold mv_t; rw [Int32.toBitVec_or, BitVec.getLsbD_or]
theorem mv_and (x y : Int32) (i : Nat) : mv_t (x &&& y) i = (mv_t x i && mv_t y i) := by unfold mv_t; rw [Int32.toBitVec_and, BitVec.getLsbD_and]
theorem mv_xor (x y : Int32) (i : Nat) : mv_t (x ^^^ y) i = (mv_t x i ^^ mv_t y i) := by unfold mv_t; rw [Int32.toBitVec_xor, BitVec.getLsbD_xor]
theorem mv_big {x : Int32} {i : Nat} (h : 32 ≤ i) : mv_t x i = false := BitVec.getLsbD_of_ge _ _ h
theorem mv_255 (i : Nat) : mv_t 255 i = decide (i < 8) := by
  rcases Nat.lt_or_ge i 32 with h | h
  · exact (by decide +kernel : ∀ i, i < 32 → mv_t 255 i = decide (i < 8)) i h
  · rw [mv_big h, decide_eq_false (by omega)]
theorem mv_neg1 : ∀ i, i < 32 → mv_t (-1) i = true := by decide +kernel
theorem mv_0 (i : Nat) : mv_t 0 i = false := BitVec.getLsbD_zero
theorem mv_1 : ∀ i, i < 32 → mv_t 1 i = decide (i = 0) := by decide +kernel
theorem mv_sl : ∀ n, n < 32 → ((nI n &&& 31).toBitVec.smod 32).toNat = n := by decide +kernel
theorem mv_shl (n : Nat) (hn : n < 32) (x : Int32) {i : Nat} (hi : i < 32) : mv_t (x <<< (nI n &&& 31)) i = (decide (n ≤ i) && mv_t x (i - n)) := by
  unfold mv_t
  rw [Int32.toBitVec_shiftLeft]
  show (x.toBitVec <<< ((nI n &&& 31).toBitVec.smod 32).toNat).getLsbD i = _
  rw [mv_sl n hn, BitVec.getLsbD_shiftLeft]
  rcases Nat.lt_or_ge i n with h | h
  · simp [h, Nat.not_le.mpr h]
  · simp [hi, h, Nat.not_lt.mpr h]
theorem mv_sshr (n : Nat) (hn : n < 32) (x : Int32) {i : Nat} (hi : i < 32) : mv_t (x >>> (nI n &&& 31)) i = if n + i < 32 then mv_t x (n + i) else mv_t x 31 := by
  unfold mv_t
  rw [Int32.toBitVec_shiftRight]
  show (x.toBitVec.sshiftRight ((nI n &&& 31).toBitVec.smod 32).toNat).getLsbD i = _
  rw [mv_sl n hn, BitVec.getLsbD_sshiftRight, BitVec.msb_eq_getLsbD_last]
  simp [hi]
/-- bit r of x, as the code asks for it -/
theorem mv_bv (x : Int32) {r : Nat} (hr : r < 8) : (x >>> (nI r &&& 31)) &&& 1 = if mv_t x r = true then 1 else 0 := by
  apply mv_ext
  intro i hi
  rw [mv_and, mv_1 i hi, mv_sshr r (by omega) x hi]
  by_cases h0 : i = 0
  · subst h0
    rw [if_pos (by omega)]
    cases h : mv_t x r
    · simp [h, mv_0]
    · simp [h]; rfl
  · rw [decide_eq_false h0, Bool.and_false]
    cases h : mv_t x r
    · simp [mv_0]
    · rw [if_pos rfl, mv_1 i hi, decide_eq_false h0]
theorem mv_bt {x : Int32} {r : Nat} (hr : r < 8) (h : mv_t x r = true) : (x >>> (nI r &&& 31)) &&& 1 = 1 := by rw [mv_bv x hr, if_pos h]
theorem mv_bf {x : Int32} {r : Nat} (hr : r < 8) (h : mv_t x r = false) : (x >>> (nI r &&& 31)) &&& 1 = 0 := by rw [mv_bv x hr, h]; rfl
theorem mv_bn {x : Int32} {r : Nat} (hr : r < 8) (h : mv_t x r = false) : ¬ (x >>> (nI r &&& 31)) &&& 1 = 1 := by rw [mv_bf hr h]; decide
theorem mv_bn0 {x : Int32} {r : Nat} (hr : r < 8) (h : mv_t x r = true) : ¬ (x >>> (nI r &&& 31)) &&& 1 = 0 := by rw [mv_bt hr h]; decide
/-- a branch on bit r -/
theorem mv_br {x : Int32} {r : Nat} {A B : Prop} (hr : r < 8) (ht : mv_t x r = true → A) (hf : mv_t x r = false → B) : ((x >>> (nI r &&& 31)) &&& 1 = 1 → A) ∧ (¬ (x >>> (nI r &&& 31)) &&& 1 = 1 → B) := by
  cases h : mv_t x r
  · exact br_f (mv_bn hr h) (hf h)
  · exact br_t (mv_bt hr h) (ht h)
theorem mv_br0 {x : Int32} {r : Nat} {A B : Prop} (hr : r < 8) (ht : mv_t x r = true → B) (hf : mv_t x r = false → A) : ((x >>> (nI r &&& 31)) &&& 1 = 0 → A) ∧ (¬ (x >>> (nI r &&& 31)) &&& 1 = 0 → B) := by
  cases h : mv_t x r
  · exact br_t (mv_bf hr h) (hf h)
  · exact br_f (mv_bn0 hr h) (ht h)
theorem mv_sh {r : Nat} (hr : r < 8) {i : Nat} (hi : i < 32) : mv_t ((1 : Int32) <<< (nI r &&& 31)) i = decide (i = r) := by
  rw [mv_shl r (by omega) 1 hi, mv_1 (i - r) (by omega)]
  rcases Nat.lt_trichotomy i r with h | h | h
  · rw [decide_eq_false (show ¬ r ≤ i by omega), decide_eq_false (show ¬ i = r by omega), Bool.false_and]
  · subst h; simp
  · rw [decide_eq_false (show ¬ i - r = 0 by omega), decide_eq_false (show ¬ i = r by omega), Bool.and_false]
/-- t holds the bits of b below r, and no others -/
def mv_lo (t b : Int32) (r : Nat) : Prop := ∀ i, i < 32 → mv_t t i = (decide (i < r) && mv_t b i)
def mv_8 (b : Int32) : Prop := ∀ i, 8 ≤ i → i < 32 → mv_t b i = false
theorem mv_lo0 (b : Int32) : mv_lo 0 b 0 := by
  intro i hi
  rw [mv_0, decide_eq_false (by omega), Bool.false_and]
theorem mv_loT {t b : Int32} {r : Nat} (h : mv_lo t b r) (hr : r < 8) (hb : mv_t b r = true) : mv_lo (t ||| ((1 : Int32) <<< (nI r &&& 31))) b (r + 1) := by
  intro i hi
  rw [mv_or, h i hi, mv_sh hr hi]
  rcases Nat.lt_trichotomy i r with g | g | g
  · rw [decide_eq_true g, decide_eq_true (show i < r + 1 by omega), decide_eq_false (show ¬ i = r by omega), Bool.or_false]
  · subst g; rw [hb]; simp
  · rw [decide_eq_false (show ¬ i < r by omega), decide_eq_false (show ¬ i < r + 1 by omega), decide_eq_false (show ¬ i = r by omega)]; simp
theorem mv_loF {t b : Int32} {r : Nat} (h : mv_lo t b r) (hb : mv_t b r = false) : mv_lo t b (r + 1) := by
  intro i hi
  rw [h i hi]
  rcases Nat.lt_trichotomy i r with g | g | g
  · rw [decide_eq_true g, decide_eq_true (show i < r + 1 by omega)]
  · subst g; rw [hb]; simp
  · rw [decide_eq_false (show ¬ i < r by omega), decide_eq_false (show ¬ i < r + 1 by omega)]
theorem mv_lo8 {t b : Int32} (h : mv_lo t b 8) (h8 : mv_8 b) : t = b := by
  apply mv_ext
  intro i hi
  rw [h i hi]
  by_cases g : i < 8
  · rw [decide_eq_true g, Bool.true_and]
  · rw [decide_eq_false g, Bool.false_and, h8 i (by omega) hi]
theorem mv_8and (x : Int32) : mv_8 (x &&& 255) := by
  intro i h hi
  rw [mv_and, mv_255, decide_eq_false (by omega), Bool.and_false]
theorem mv_8or {x y : Int32} (hx : mv_8 x) (hy : mv_8 y) : mv_8 (x ||| y) := by
  intro i h hi
  rw [mv_or, hx i h hi, hy i h hi]; rfl
theorem mv_8an {x y : Int32} (hx : mv_8 x) : mv_8 (x &&& y) := by
  intro i h hi
  rw [mv_and, hx i h hi]; rfl
theorem mv_zor (x : Int32) : 0 ||| x = x := by
  apply mv_ext
  intro i _
  rw [mv_or, mv_0, Bool.false_or]
theorem mv_orz (x : Int32) : x ||| 0 = x := by
  apply mv_ext
  intro i _
  rw [mv_or, mv_0, Bool.or_false]
end
section
section
variable {c f : Int64} {a1 a2 a3 a4 a5 a6 : Nat → Int32} {a7 : Nat → Int64} {a8 a9 a10 a11 a12 : Nat → Int32}
/-- number n is in the set s -/
def mv_in (s : Int64) (n : Int32) : Bool := decide (n = 0) || decide ((((s.toUInt64 >>> (n.toInt64.toUInt64 &&& Int64.toUInt64 63)).toInt64) &&& 1) = 1)
def mv_sees (s : Int64) (m e : Int32) : Bool := mv_in s m && (decide (e = 0) || !mv_in s e)
def mv_bit (m : Int32) : Int64 := (1 : Int64) <<< (m.toInt64 &&& 63)
/-- the value of the version of kind k of row r -/
def mv_va (k r : Nat) : Int32 := if k = 0 then 10 + nI r else if k = 1 then 100 + nI r else 1
/-- the table: n versions, place i holds the one of kind kd i and row ro i; P says which there are -/
def mv_tb (P : Nat → Nat → Prop) (mk en : Nat → Nat → Int32) (n : Nat) (kd ro : Nat → Nat) (a1 a2 a3 a4 a5 : Nat → Int32) : Prop :=
  (∀ i, n ≤ i → i < 96 → a1 i = 0) ∧
  (∀ i, i < n → a1 i = 1 ∧ a2 i = nI (ro i) ∧ a3 i = mv_va (kd i) (ro i) ∧ a4 i = mk (kd i) (ro i) ∧ a5 i = en (kd i) (ro i) ∧ ro i < 8 ∧ P (kd i) (ro i)) ∧
  (∀ i j, i < n → j < n → kd i = kd j → ro i = ro j → i = j) ∧
  (∀ k r, P k r → ∃ i, i < n ∧ kd i = k ∧ ro i = r)
theorem mv_wInT {post : Int32 → Prop} {s : Int64} {n : Int32} (hi : mv_in s n = true) (h : post 1) : wpX_in post (c, f, a1, a2, a3, a4, a5, a6, a7, a8, a9, a10, a11, a12) s n := by
  unfold wpX_in
  by_cases h0 : n = 0
  · exact br_t h0 h
  · refine br_f h0 (br_t ?_ h)
    simpa [mv_in, h0] using hi
theorem mv_wInF {post : Int32 → Prop} {s : Int64} {n : Int32} (hi : mv_in s n = false) (h : post 0) : wpX_in post (c, f, a1, a2, a3, a4, a5, a6, a7, a8, a9, a10, a11, a12) s n := by
  unfold wpX_in
  by_cases h0 : n = 0
  · simp [mv_in, h0] at hi
  · refine br_f h0 (br_f ?_ h)
    simpa [mv_in, h0] using hi
theorem mv_wSees {post : Int32 → Prop} {s : Int64} {i : Nat} (hi : i < 96) (ht : mv_sees s (a4 i) (a5 i) = true → post 1) (hf : mv_sees s (a4 i) (a5 i) = false → post 0) :
    wpX_sees post (c, f, a1, a2, a3, a4, a5, a6, a7, a8, a9, a10, a11, a12) s (nI i) := by
  unfold wpX_sees
  rw [nI_clamp (show i < 2 ^ 31 by omega)]
  refine ⟨pk_in i 96 hi, ?_⟩
  cases h1 : mv_in s (a4 i)
  · exact mv_wInF h1 (br_t rfl (hf (by simp [mv_sees, h1])))
  · refine mv_wInT h1 (br_f (by decide) ⟨pk_in i 96 hi, ?_⟩)
    by_cases h0 : a5 i = 0
    · exact br_t h0 (ht (by simp [mv_sees, h1, h0]))
    · refine br_f h0 ⟨pk_in i 96 hi, ?_⟩
      cases h2 : mv_in s (a5 i)
      · exact mv_wInF h2 (br_t rfl (ht (by simp [mv_sees, h1, h0, h2])))
      · exact mv_wInT h2 (br_f (by decide) (hf (by simp [mv_sees, h1, h0, h2])))
theorem mv_wVF {post : Int32 → Prop} {P : Nat → Nat → Prop} {mk en : Nat → Nat → Int32} {n : Nat} {kd ro : Nat → Nat} (T : mv_tb P mk en n kd ro a1 a2 a3 a4 a5) (hn : n ≤ 96) {s : Int64} {r : Nat} (hr : r < 8) (w : Option Nat)
    (hw : ∀ k, P k r → (mv_sees s (mk k r) (en k r) = true ↔ w = some k)) (hs : ∀ k, w = some k → P k r)
    (h0 : w = none → post (-1)) (h1 : ∀ i k, w = some k → i < n → kd i = k → ro i = r → post (nI i)) :
    wpX_versionFor post (c, f, a1, a2, a3, a4, a5, a6, a7, a8, a9, a10, a11, a12) s (nI r) := by
  obtain ⟨t0, t1, t2, t3⟩ := T
  refine pk_loop (σ := Unit) (fun m i _ => wX_versionFor_3 post s (nI r) c f a1 a2 a3 a4 a5 a6 a7 a8 a9 a10 a11 a12 m (nI i)) (fun i _ => ∀ j, j < i → j < n → ro j = r → ¬ w = some (kd j)) 96 0 () (by omega) (fun j hj => absurd hj (by omega)) ?_ ?_
  · intro m _ hI
    refine pk_le 96 96 (fun _ => ?_) (fun z => absurd z (by omega))
    rcases Option.eq_none_or_eq_some w with e | ⟨k, e⟩
    · exact h0 e
    · obtain ⟨i, hi, hk, hri⟩ := t3 k r (hs k e)
      exact absurd (by rw [hk]; exact e) (hI i (by omega) hi hri)
  · intro m i _ hi hI hW
    have next : (i < n → ro i = r → ¬ w = some (kd i)) → wX_versionFor_3 post s (nI r) c f a1 a2 a3 a4 a5 a6 a7 a8 a9 a10 a11 a12 m (nI (i + 1)) := fun hh => hW () (lt_s hI hh)
    refine pk_le 96 i (fun z => absurd z (by omega)) (fun _ => ⟨pk_in i 96 hi, ?_⟩)
    rw [nI_clamp (show i < 2 ^ 31 by omega)]
    rcases Nat.lt_or_ge i n with hin | hin
    · obtain ⟨e1, e2, e3, e4, e5, e6, e7⟩ := t1 i hin
      refine br_f (by rw [e1]; decide) ⟨pk_in i 96 hi, ?_⟩
      by_cases er : ro i = r
      · refine br_t (by rw [e2, er]) (mv_wSees hi (fun hz => ?_) (fun hz => ?_))
        · rw [e4, e5, er] at hz
          rw [er] at e7
          exact br_f (by decide) (h1 i (kd i) ((hw _ e7).mp hz) hin rfl er)
        · rw [e4, e5, er] at hz
          rw [er] at e7
          refine br_t rfl (nm_r (nI_1 i) (next (fun _ _ e => ?_)))
          rw [(hw _ e7).mpr e] at hz
          exact absurd hz (by decide)
      · exact br_f (by rw [e2]; exact fun z => er ((nI_eq (by omega) (by omega)).mp z)) (nm_r (nI_1 i) (next (fun _ z => absurd z er)))
    · exact br_t (t0 i hin hi) (nm_r (nI_1 i) (next (fun z _ => absurd z (by omega))))
theorem mv_ix (t k : Nat) : nI t * 4 + nI k = nI (t * 4 + k) := by
  rw [show (4 : Int32) = nI 4 from rfl, pk_mul, nI_add]
theorem mv_ix0 (t : Nat) : nI t * 4 = nI (t * 4) := by
  rw [show (4 : Int32) = nI 4 from rfl, pk_mul]
/-- the own set of transaction t is o -/
def mv_own (a8 a9 : Nat → Int32) (t : Nat) (o : Int64) : Prop :=
  (a8 t = nI 0 ∧ 0 ||| mv_bit (a9 (t * 4 + 0)) = o) ∨ (a8 t = nI 1 ∧ (0 ||| mv_bit (a9 (t * 4 + 0))) ||| mv_bit (a9 (t * 4 + 1)) = o)
def mv_chg (a8 a10 : Nat → Int32) (t : Nat) (x : Int32) : Prop :=
  (a8 t = nI 0 ∧ 0 ||| a10 (t * 4 + 0) = x) ∨ (a8 t = nI 1 ∧ (0 ||| a10 (t * 4 + 0)) ||| a10 (t * 4 + 1) = x)
theorem mv_ownS {post : Int64 → Prop} {t k lv m : Nat} {x : Int64} (ht : t < 4) (hl : lv < 4) (h8 : a8 t = nI lv) (hk : k ≤ lv)
    (h : wX_ownSet_5 post (nI t) c f a1 a2 a3 a4 a5 a6 a7 a8 a9 a10 a11 a12 m (x ||| mv_bit (a9 (t * 4 + k))) (nI (k + 1))) :
    wX_ownSet_5 post (nI t) c f a1 a2 a3 a4 a5 a6 a7 a8 a9 a10 a11 a12 (m + 1) x (nI k) := by
  refine ⟨pk_in t 4 ht, ?_⟩
  refine pk_lt lv k (fun z => absurd z (by omega)) (fun _ => ⟨pk_in (t * 4 + k) 16 (by omega) (mv_ix t k), ?_⟩) (by rw [nI_clamp (by omega), h8])
  rw [mv_ix, nI_clamp (by omega)]
  exact nm_e (nm_r (nI_1 k) h)
theorem mv_ownE {post : Int64 → Prop} {t k lv m : Nat} {x : Int64} (ht : t < 4) (hl : lv < 4) (h8 : a8 t = nI lv) (hk : lv < k) (hk4 : k ≤ 4) (h : post x) :
    wX_ownSet_5 post (nI t) c f a1 a2 a3 a4 a5 a6 a7 a8 a9 a10 a11 a12 (m + 1) x (nI k) :=
  ⟨pk_in t 4 ht, pk_lt lv k (fun _ => h) (fun z => absurd z (by omega)) (by rw [nI_clamp (by omega), h8])⟩
theorem mv_wOwn {post : Int64 → Prop} {t : Nat} {o : Int64} (ht : t < 4) (h : mv_own a8 a9 t o) (hp : post o) :
    wpX_ownSet post (c, f, a1, a2, a3, a4, a5, a6, a7, a8, a9, a10, a11, a12) (nI t) := by
  rcases h with ⟨h8, he⟩ | ⟨h8, he⟩
  · exact ⟨2, mv_ownS (k := 0) ht (by omega) h8 (by omega) (mv_ownE ht (by omega) h8 (by omega) (by omega) (he ▸ hp))⟩
  · exact ⟨3, mv_ownS (k := 0) ht (by omega) h8 (by omega) (mv_ownS ht (by omega) h8 (by omega) (mv_ownE ht (by omega) h8 (by omega) (by omega) (he ▸ hp)))⟩
theorem mv_chgS {post : Int32 → Prop} {t k lv m : Nat} {x : Int32} (ht : t < 4) (hl : lv < 4) (h8 : a8 t = nI lv) (hk : k ≤ lv)
    (h : wX_changedBy_4 post (nI t) c f a1 a2 a3 a4 a5 a6 a7 a8 a9 a10 a11 a12 m (x ||| (a10 (t * 4 + k))) (nI (k + 1))) :
    wX_changedBy_4 post (nI t) c f a1 a2 a3 a4 a5 a6 a7 a8 a9 a10 a11 a12 (m + 1) x (nI k) := by
  refine ⟨pk_in t 4 ht, ?_⟩
  refine pk_lt lv k (fun z => absurd z (by omega)) (fun _ => ⟨pk_in (t * 4 + k) 16 (by omega) (mv_ix t k), ?_⟩) (by rw [nI_clamp (by omega), h8])
  rw [mv_ix, nI_clamp (by omega)]
  exact nm_e (nm_r (nI_1 k) h)
theorem mv_chgE {post : Int32 → Prop} {t k lv m : Nat} {x : Int32} (ht : t < 4) (hl : lv < 4) (h8 : a8 t = nI lv) (hk : lv < k) (hk4 : k ≤ 4) (h : post x) :
    wX_changedBy_4 post (nI t) c f a1 a2 a3 a4 a5 a6 a7 a8 a9 a10 a11 a12 (m + 1) x (nI k) :=
  ⟨pk_in t 4 ht, pk_lt lv k (fun _ => h) (fun z => absurd z (by omega)) (by rw [nI_clamp (by omega), h8])⟩
theorem mv_wChg {post : Int32 → Prop} {t : Nat} {o : Int32} (ht : t < 4) (h : mv_chg a8 a10 t o) (hp : post o) :
    wpX_changedBy post (c, f, a1, a2, a3, a4, a5, a6, a7, a8, a9, a10, a11, a12) (nI t) := by
  rcases h with ⟨h8, he⟩ | ⟨h8, he⟩
  · exact ⟨2, mv_chgS (k := 0) ht (by omega) h8 (by omega) (mv_chgE ht (by omega) h8 (by omega) (by omega) (he ▸ hp))⟩
  · exact ⟨3, mv_chgS (k := 0) ht (by omega) h8 (by omega) (mv_chgS ht (by omega) h8 (by omega) (mv_chgE ht (by omega) h8 (by omega) (by omega) (he ▸ hp)))⟩
theorem mv_wVO {post : Int32 → Prop} {P : Nat → Nat → Prop} {mk en : Nat → Nat → Int32} {n : Nat} {kd ro : Nat → Nat} (T : mv_tb P mk en n kd ro a1 a2 a3 a4 a5) (hn : n ≤ 96)
    {t : Nat} (ht : t < 4) {o : Int64} (ho : mv_own a8 a9 t o) {s : Int64} (h7 : a7 t ||| o = s) {r : Nat} (hr : r < 8) (w : Option Nat)
    (hw : ∀ k, P k r → (mv_sees s (mk k r) (en k r) = true ↔ w = some k)) (hs : ∀ k, w = some k → P k r)
    (h0 : w = none → post (-1)) (h1 : ∀ i k, w = some k → i < n → kd i = k → ro i = r → post (nI i)) :
    wpX_versionOf post (c, f, a1, a2, a3, a4, a5, a6, a7, a8, a9, a10, a11, a12) (nI t) (nI r) := by
  unfold wpX_versionOf
  refine mv_wOwn ht ho ⟨pk_in t 4 ht, ?_⟩
  rw [nI_clamp (show t < 2 ^ 31 by omega), h7]
  exact mv_wVF T hn hr w hw hs h0 h1
theorem mv_wRef {post : Int32 → Prop} {t : Nat} (ht : t < 4) (h6 : ¬ a6 t = 0) (hp : post 0) :
    wpX_refused post (c, f, a1, a2, a3, a4, a5, a6, a7, a8, a9, a10, a11, a12) (nI t) := by
  unfold wpX_refused
  refine br_f (nI_pos (by omega)) (br_t (nI_lt (b := 4) ht (by omega)) ⟨pk_in t 4 ht, ?_⟩)
  rw [nI_clamp (show t < 2 ^ 31 by omega)]
  exact br_f h6 hp
theorem mv_wRefC {post : Int32 → Prop} {t : Nat} (ht : t < 4) (h6 : a6 t = 0) (hp : post (-2)) :
    wpX_refused post (c, f, a1, a2, a3, a4, a5, a6, a7, a8, a9, a10, a11, a12) (nI t) := by
  unfold wpX_refused
  refine br_f (nI_pos (by omega)) (br_t (nI_lt (b := 4) ht (by omega)) ⟨pk_in t 4 ht, ?_⟩)
  rw [nI_clamp (show t < 2 ^ 31 by omega)]
  exact br_t h6 hp
theorem mv_wRefR {post : Int32 → Prop} {t r : Nat} (ht : t < 4) (hr : r < 8) (h6 : ¬ a6 t = 0) (hp : post 0) :
    wpX_refusedRow post (c, f, a1, a2, a3, a4, a5, a6, a7, a8, a9, a10, a11, a12) (nI t) (nI r) := by
  unfold wpX_refusedRow
  exact mv_wRef ht h6 (br_t (by decide) (br_f (nI_pos (by omega)) (br_t (nI_lt (b := 8) hr (by omega)) hp)))
theorem mv_wBlk {post : Int32 → Prop} {t r : Nat} (ht : t < 4) (hr : r < 8) (hu : ∀ u, u < 4 → u ≠ t → a6 u = 0 ∨ mv_chg a8 a10 u 0)
    (h1 : mv_t (a11 t) r = true → post (-5)) (h0 : mv_t (a11 t) r = false → post 0) :
    wpX_blocked post (c, f, a1, a2, a3, a4, a5, a6, a7, a8, a9, a10, a11, a12) (nI t) (nI r) := by
  refine pk_loop (σ := Unit) (fun m i _ => wX_blocked_2 post (nI t) (nI r) c f a1 a2 a3 a4 a5 a6 a7 a8 a9 a10 a11 a12 m (nI i)) (fun _ _ => True) 4 0 () (by omega) trivial ?_ ?_
  · intro m _ _
    refine pk_le 4 4 (fun _ => ⟨pk_in t 4 ht, ?_⟩) (fun z => absurd z (by omega))
    rw [nI_clamp (show t < 2 ^ 31 by omega)]
    exact mv_br hr h1 h0
  · intro m i _ hi _ hW
    refine pk_le 4 i (fun z => absurd z (by omega)) (fun _ => pk_eq i t (fun _ => nm_r (nI_1 i) (hW () trivial)) (fun hne => ⟨pk_in i 4 hi, ?_⟩))
    rw [nI_clamp (show i < 2 ^ 31 by omega)]
    by_cases h6 : a6 i = 0
    · exact br_t h6 (nm_r (nI_1 i) (hW () trivial))
    · rcases hu i hi hne with z | z
      · exact absurd z h6
      · exact br_f h6 (mv_wChg hi z (br_f (mv_bn hr (mv_0 r)) (nm_r (nI_1 i) (hW () trivial))))
theorem mv_wCur {post : Int32 → Prop} {t lv : Nat} (ht : t < 4) (h8 : a8 t = nI lv) (hp : post (nI (t * 4 + lv))) :
    wpX_current post (c, f, a1, a2, a3, a4, a5, a6, a7, a8, a9, a10, a11, a12) (nI t) := by
  unfold wpX_current
  refine ⟨pk_in t 4 ht, ?_⟩
  rw [nI_clamp (show t < 2 ^ 31 by omega), h8, mv_ix]
  exact hp
theorem mv_wFreeV {post : Int32 → Prop} {n : Nat} (hn : n < 96) (hu : ∀ i, i < n → a1 i = 1) (h0 : a1 n = 0) (hp : post (nI n)) :
    wpX_freeVersion post (c, f, a1, a2, a3, a4, a5, a6, a7, a8, a9, a10, a11, a12) := by
  refine pk_loop (σ := Unit) (fun m i _ => wX_freeVersion_2 post c f a1 a2 a3 a4 a5 a6 a7 a8 a9 a10 a11 a12 m (nI i)) (fun _ _ => True) n 0 () (by omega) trivial ?_ ?_
  · intro m _ _
    refine pk_le 96 n (fun z => absurd z (by omega)) (fun _ => ⟨pk_in n 96 hn, ?_⟩)
    rw [nI_clamp (show n < 2 ^ 31 by omega)]
    exact br_t h0 hp
  · intro m i _ hi _ hW
    refine pk_le 96 i (fun z => absurd z (by omega)) (fun _ => ⟨pk_in i 96 (by omega), ?_⟩)
    rw [nI_clamp (show i < 2 ^ 31 by omega), hu i hi]
    exact br_f (by decide) (nm_r (nI_1 i) (hW () trivial))
theorem mv_wMake {post : St2 → Prop} {n : Nat} {x1 x2 x3 : Int32} (hn : n < 96) (hu : ∀ i, i < n → a1 i = 1) (h0 : a1 n = 0)
    (hp : post (c, f, upd a1 n 1, upd a2 n x1, upd a3 n x2, upd a4 n x3, upd a5 n 0, a6, a7, a8, a9, a10, a11, a12)) :
    wpX_makeVersion post (c, f, a1, a2, a3, a4, a5, a6, a7, a8, a9, a10, a11, a12) x1 x2 x3 := by
  unfold wpX_makeVersion
  refine mv_wFreeV hn hu h0 (br_t (nI_pos' (by omega)) ?_)
  unfold wX_makeVersion_21
  rw [nI_clamp (show n < 2 ^ 31 by omega)]
  have hv : vp_in (nI n) 96 := pk_in n 96 hn
  exact ⟨hv, nm_e ⟨hv, nm_e ⟨hv, nm_e ⟨hv, nm_e ⟨hv, nm_e hp⟩⟩⟩⟩⟩
end
end
section
section
variable {c f : Int64} {a1 a2 a3 a4 a5 a6 : Nat → Int32} {a7 : Nat → Int64} {a8 a9 a10 a11 a12 : Nat → Int32}
variable {P P' : Nat → Nat → Prop} {mk en en' : Nat → Nat → Int32} {n : Nat} {kd ro : Nat → Nat}
theorem mv_tbAdd (T : mv_tb P mk en n kd ro a1 a2 a3 a4 a5) {r k0 : Nat} {x m : Int32} {b5 : Nat → Int32} (hr : r < 8) (hx : x = mv_va k0 r) (hmk : mk k0 r = m) (hP0 : ¬ P k0 r)
    (hP : ∀ k s, P' k s ↔ (P k s ∨ (k = k0 ∧ s = r))) (hb : ∀ i, i < n → b5 i = en' (kd i) (ro i)) (he0 : en' k0 r = 0) :
    mv_tb P' mk en' (n + 1) (fun j => if j = n then k0 else kd j) (fun j => if j = n then r else ro j) (upd a1 n 1) (upd a2 n (nI r)) (upd a3 n x) (upd a4 n m) (upd b5 n 0) := by
  obtain ⟨t0, t1, t2, t3⟩ := T
  refine ⟨fun i h1 h2 => ?_, fun i hi => ?_, fun i j hi hj hk hr' => ?_, fun k s hks => ?_⟩
  · rw [pk_un (by omega)]
    exact t0 i (by omega) h2
  · by_cases e : i = n
    · have ek : (if i = n then k0 else kd i) = k0 := if_pos e
      have er : (if i = n then r else ro i) = r := if_pos e
      dsimp only
      rw [ek, er, e, pk_us, pk_us, pk_us, pk_us, pk_us]
      exact ⟨rfl, rfl, hx, hmk.symm, he0.symm, hr, (hP _ _).mpr (Or.inr ⟨rfl, rfl⟩)⟩
    · have ek : (if i = n then k0 else kd i) = kd i := if_neg e
      have er : (if i = n then r else ro i) = ro i := if_neg e
      dsimp only
      rw [ek, er, pk_un e, pk_un e, pk_un e, pk_un e, pk_un e]
      obtain ⟨e1, e2, e3, e4, e5, e6, e7⟩ := t1 i (by omega)
      exact ⟨e1, e2, e3, e4, hb i (by omega), e6, (hP _ _).mpr (Or.inl e7)⟩
  · dsimp only at hk hr'
    by_cases ei : i = n
    · by_cases ej : j = n
      · omega
      · rw [if_pos ei, if_neg ej] at hk hr'
        obtain ⟨e1, e2, e3, e4, e5, e6, e7⟩ := t1 j (by omega)
        rw [← hk, ← hr'] at e7
        exact absurd e7 hP0
    · by_cases ej : j = n
      · rw [if_neg ei, if_pos ej] at hk hr'
        obtain ⟨e1, e2, e3, e4, e5, e6, e7⟩ := t1 i (by omega)
        rw [hk, hr'] at e7
        exact absurd e7 hP0
      · rw [if_neg ei, if_neg ej] at hk hr'
        exact t2 i j (by omega) (by omega) hk hr'
  · rcases (hP k s).mp hks with h | ⟨h1, h2⟩
    · obtain ⟨i, hi, hk, hs⟩ := t3 k s h
      refine ⟨i, by omega, ?_, ?_⟩
      · dsimp only
        rw [if_neg (by omega)]
        exact hk
      · dsimp only
        rw [if_neg (by omega)]
        exact hs
    · refine ⟨n, by omega, ?_, ?_⟩
      · dsimp only
        rw [if_pos rfl, h1]
      · dsimp only
        rw [if_pos rfl, h2]
theorem mv_tbEn {b5 : Nat → Int32} (T : mv_tb P mk en n kd ro a1 a2 a3 a4 a5) (hb : ∀ i, i < n → b5 i = en' (kd i) (ro i)) : mv_tb P mk en' n kd ro a1 a2 a3 a4 b5 := by
  obtain ⟨t0, t1, t2, t3⟩ := T
  refine ⟨t0, fun i hi => ?_, t2, t3⟩
  obtain ⟨e1, e2, e3, e4, e5, e6, e7⟩ := t1 i hi
  exact ⟨e1, e2, e3, e4, hb i hi, e6, e7⟩
theorem mv_enU (T : mv_tb P mk en n kd ro a1 a2 a3 a4 a5) {w : Option Nat} {r i k : Nat} {m : Int32} (he : ∀ k s, P k s → en' k s = if s = r ∧ w = some k then m else en k s)
    (e : w = some k) (hi : i < n) (hk : kd i = k) (hri : ro i = r) : ∀ j, j < n → upd a5 i m j = en' (kd j) (ro j) := by
  obtain ⟨t0, t1, t2, t3⟩ := T
  intro j hj
  obtain ⟨e1, e2, e3, e4, e5, e6, e7⟩ := t1 j hj
  rw [he _ _ e7]
  by_cases h : j = i
  · rw [h, pk_us, if_pos ⟨hri, by rw [hk]; exact e⟩]
  · rw [pk_un h, e5, if_neg]
    rintro ⟨g1, g2⟩
    rw [e] at g2
    exact h (t2 j i hj hi (by rw [hk]; exact (Option.some.inj g2).symm) (by rw [g1, hri]))
theorem mv_enN (T : mv_tb P mk en n kd ro a1 a2 a3 a4 a5) {w : Option Nat} {r : Nat} {m : Int32} (he : ∀ k s, P k s → en' k s = if s = r ∧ w = some k then m else en k s)
    (e : w = none) : ∀ j, j < n → a5 j = en' (kd j) (ro j) := by
  obtain ⟨t0, t1, t2, t3⟩ := T
  intro j hj
  obtain ⟨e1, e2, e3, e4, e5, e6, e7⟩ := t1 j hj
  rw [he _ _ e7, e5, if_neg]
  rintro ⟨g1, g2⟩
  rw [e] at g2
  exact absurd g2.symm (Option.some_ne_none _)
theorem mv_wWr0 {post : St2 → Prop} {t r : Nat} {m x : Int32} (ht : t < 4) (h8 : a8 t = nI 0) (h9 : a9 (t * 4 + 0) = m) (hn : n < 96) (hu : ∀ i, i < n → a1 i = 1) (h0 : a1 n = 0)
    (hp : post (c, f, upd a1 n 1, upd a2 n (nI r), upd a3 n x, upd a4 n m, upd a5 n 0, a6, a7, a8, a9, upd a10 (t * 4 + 0) (a10 (t * 4 + 0) ||| ((1 : Int32) <<< (nI r &&& 31))), a11, a12)) :
    wpX_write post (c, f, a1, a2, a3, a4, a5, a6, a7, a8, a9, a10, a11, a12) (nI t) (nI r) (-1) x := by
  unfold wpX_write
  have hv : vp_in (nI (t * 4 + 0)) 16 := pk_in (t * 4 + 0) 16 (by omega)
  refine mv_wCur ht h8 ⟨hv, ?_⟩
  rw [nI_clamp (show t * 4 + 0 < 2 ^ 31 by omega)]
  refine nm_r h9 (mv_wCur ht h8 (mv_wCur ht h8 ⟨hv, hv, ?_⟩))
  rw [nI_clamp (show t * 4 + 0 < 2 ^ 31 by omega)]
  refine nm_e (br_t (by decide) ?_)
  unfold wX_write_62
  refine br_t (by decide) ?_
  unfold wX_write_74
  exact mv_wMake hn hu h0 hp
theorem mv_wWr1 {post : St2 → Prop} {t r i : Nat} {m x : Int32} (ht : t < 4) (h8 : a8 t = nI 0) (h9 : a9 (t * 4 + 0) = m) (hn : n < 96) (hu : ∀ i, i < n → a1 i = 1) (h0 : a1 n = 0) (hi : i < 96) (h4 : ¬ a4 i = m)
    (hp : post (c, f, upd a1 n 1, upd a2 n (nI r), upd a3 n x, upd a4 n m, upd (upd a5 i m) n 0, a6, a7, a8, a9, upd a10 (t * 4 + 0) (a10 (t * 4 + 0) ||| ((1 : Int32) <<< (nI r &&& 31))), a11, a12)) :
    wpX_write post (c, f, a1, a2, a3, a4, a5, a6, a7, a8, a9, a10, a11, a12) (nI t) (nI r) (nI i) x := by
  unfold wpX_write
  have hv : vp_in (nI (t * 4 + 0)) 16 := pk_in (t * 4 + 0) 16 (by omega)
  refine mv_wCur ht h8 ⟨hv, ?_⟩
  rw [nI_clamp (show t * 4 + 0 < 2 ^ 31 by omega)]
  refine nm_r h9 (mv_wCur ht h8 (mv_wCur ht h8 ⟨hv, hv, ?_⟩))
  rw [nI_clamp (show t * 4 + 0 < 2 ^ 31 by omega)]
  refine nm_e (br_f (nI_pos (by omega)) ⟨pk_in i 96 hi, ?_⟩)
  rw [nI_clamp (show i < 2 ^ 31 by omega)]
  refine br_f h4 ?_
  unfold wX_write_62
  refine br_f (nI_pos (by omega)) ⟨pk_in i 96 hi, ?_⟩
  rw [nI_clamp (show i < 2 ^ 31 by omega)]
  refine nm_e ?_
  unfold wX_write_74
  exact mv_wMake hn hu h0 hp
/-- put makes a version: kind k0 of row r; the one seen before (w) is ended by m -/
theorem mv_wPut {post : Int32 → St2 → Prop} (T : mv_tb P mk en n kd ro a1 a2 a3 a4 a5) (hn : n < 96) {t : Nat} (ht : t < 4) {r : Nat} (hr : r < 8) (h6 : ¬ a6 t = 0)
    (hu : ∀ u, u < 4 → u ≠ t → a6 u = 0 ∨ mv_chg a8 a10 u 0) (h11 : mv_t (a11 t) r = false) (h8 : a8 t = nI 0) {o s : Int64} (ho : mv_own a8 a9 t o) (h7 : a7 t ||| o = s)
    (w : Option Nat) (hw : ∀ k, P k r → (mv_sees s (mk k r) (en k r) = true ↔ w = some k)) (hs : ∀ k, w = some k → P k r)
    {m : Int32} (h9 : a9 (t * 4 + 0) = m) (hm : ∀ k, w = some k → ¬ mk k r = m) (k0 : Nat) {x : Int32} (hx : x = mv_va k0 r) (hmk : mk k0 r = m) (hP0 : ¬ P k0 r)
    (hP : ∀ k s, P' k s ↔ (P k s ∨ (k = k0 ∧ s = r))) (he : ∀ k s, P k s → en' k s = if s = r ∧ w = some k then m else en k s) (he0 : en' k0 r = 0)
    (hp : ∀ (kd' ro' : Nat → Nat) (b1 b2 b3 b4 b5 : Nat → Int32), mv_tb P' mk en' (n + 1) kd' ro' b1 b2 b3 b4 b5 →
      post (if w.isSome = true then 1 else 0) (c, f, b1, b2, b3, b4, b5, a6, a7, a8, a9, upd a10 (t * 4 + 0) (a10 (t * 4 + 0) ||| ((1 : Int32) <<< (nI r &&& 31))), a11, a12)) :
    wpX_put post (c, f, a1, a2, a3, a4, a5, a6, a7, a8, a9, a10, a11, a12) (nI t) (nI r) x := by
  have hu1 : ∀ i, i < n → a1 i = 1 := fun i hi => (T.2.1 i hi).1
  have hu0 : a1 n = 0 := T.1 n (Nat.le_refl n) hn
  unfold wpX_put
  refine mv_wRefR ht hr h6 (br_t (by decide) ?_)
  refine mv_wBlk ht hr hu (fun z => absurd z (by rw [h11]; decide)) (fun _ => br_t (by decide) ?_)
  refine mv_wVO T (by omega) ht ho h7 hr w hw hs (fun e => ?_) (fun i k e hi hk hri => ?_)
  · refine mv_wWr0 ht h8 h9 hn hu1 hu0 (br_f (by decide) ?_)
    have q := hp _ _ _ _ _ _ _ (mv_tbAdd T hr hx hmk hP0 hP (mv_enN T he e) he0)
    rw [e] at q
    exact q
  · have h4 : ¬ a4 i = m := by
      rw [(T.2.1 i hi).2.2.2.1, hk, hri]
      exact hm k e
    refine mv_wWr1 ht h8 h9 hn hu1 hu0 (by omega) h4 (br_t (nI_pos' (by omega)) ?_)
    have q := hp _ _ _ _ _ _ _ (mv_tbAdd T hr hx hmk hP0 hP (mv_enU T he e hi hk hri) he0)
    rw [e] at q
    exact q
theorem mv_wPutS {post : Int32 → St2 → Prop} {t : Nat} (ht : t < 4) {r : Nat} (hr : r < 8) {x : Int32} (h6 : ¬ a6 t = 0)
    (hu : ∀ u, u < 4 → u ≠ t → a6 u = 0 ∨ mv_chg a8 a10 u 0) (h11 : mv_t (a11 t) r = true) (hp : post (-5) (c, f, a1, a2, a3, a4, a5, a6, a7, a8, a9, a10, a11, a12)) :
    wpX_put post (c, f, a1, a2, a3, a4, a5, a6, a7, a8, a9, a10, a11, a12) (nI t) (nI r) x := by
  unfold wpX_put
  refine mv_wRefR ht hr h6 (br_t (by decide) ?_)
  exact mv_wBlk ht hr hu (fun _ => br_f (by decide) hp) (fun z => absurd z (by rw [h11]; decide))
theorem mv_wDrop {post : Int32 → St2 → Prop} (T : mv_tb P mk en n kd ro a1 a2 a3 a4 a5) (hn : n ≤ 96) {t : Nat} (ht : t < 4) {r : Nat} (hr : r < 8) (h6 : ¬ a6 t = 0)
    (hu : ∀ u, u < 4 → u ≠ t → a6 u = 0 ∨ mv_chg a8 a10 u 0) (h11 : mv_t (a11 t) r = false) (h8 : a8 t = nI 1) {o s : Int64} (ho : mv_own a8 a9 t o) (h7 : a7 t ||| o = s)
    (w : Option Nat) (hw : ∀ k, P k r → (mv_sees s (mk k r) (en k r) = true ↔ w = some k)) (hs : ∀ k, w = some k → P k r)
    {m : Int32} (h9 : a9 (t * 4 + 1) = m) (he : ∀ k s, P k s → en' k s = if s = r ∧ w = some k then m else en k s)
    (hN : w = none → mv_tb P mk en' n kd ro a1 a2 a3 a4 a5 → post (-3) (c, f, a1, a2, a3, a4, a5, a6, a7, a8, a9, a10, a11, a12))
    (hS : ∀ (k : Nat) (b5 : Nat → Int32), w = some k → mv_tb P mk en' n kd ro a1 a2 a3 a4 b5 →
      post 0 (c, f, a1, a2, a3, a4, b5, a6, a7, a8, a9, upd a10 (t * 4 + 1) (a10 (t * 4 + 1) ||| ((1 : Int32) <<< (nI r &&& 31))), a11, a12)) :
    wpX_drop post (c, f, a1, a2, a3, a4, a5, a6, a7, a8, a9, a10, a11, a12) (nI t) (nI r) := by
  have hv : vp_in (nI (t * 4 + 1)) 16 := pk_in (t * 4 + 1) 16 (by omega)
  unfold wpX_drop
  refine mv_wRefR ht hr h6 (br_t (by decide) ?_)
  refine mv_wVO T (by omega) ht ho h7 hr w hw hs (fun e => br_f (by decide) (hN e (mv_tbEn T (mv_enN T he e)))) (fun i k e hi hk hri => br_t (nI_pos' (by omega)) ?_)
  refine mv_wBlk ht hr hu (fun z => absurd z (by rw [h11]; decide)) (fun _ => br_t (by decide) ?_)
  refine mv_wCur ht h8 (mv_wCur ht h8 ⟨hv, hv, ?_⟩)
  rw [nI_clamp (show t * 4 + 1 < 2 ^ 31 by omega)]
  refine nm_e (mv_wCur ht h8 ⟨hv, pk_in i 96 (by omega), ?_⟩)
  rw [nI_clamp (show t * 4 + 1 < 2 ^ 31 by omega), nI_clamp (show i < 2 ^ 31 by omega), h9]
  exact nm_e (hS k _ e (mv_tbEn T (mv_enU T he e hi hk hri)))
end
end
section
section
variable {c f : Int64} {a1 a2 a3 a4 a5 a6 : Nat → Int32} {a7 : Nat → Int64} {a8 a9 a10 a11 a12 : Nat → Int32}
variable {P : Nat → Nat → Prop} {mk en : Nat → Nat → Int32} {n : Nat} {kd ro : Nat → Nat}
def mv_vo (w : Option Nat) (r : Nat) : Int32 := match w with
  | some k => mv_va k r
  | none => 0
/-- w says, row by row, which kind is seen with the set s -/
def mv_w (P : Nat → Nat → Prop) (mk en : Nat → Nat → Int32) (s : Int64) (w : Nat → Option Nat) : Prop :=
  (∀ r, r < 8 → ∀ k, P k r → (mv_sees s (mk k r) (en k r) = true ↔ w r = some k)) ∧ (∀ r, r < 8 → ∀ k, w r = some k → P k r)
theorem mv_wGet {post : Int32 → Prop} (T : mv_tb P mk en n kd ro a1 a2 a3 a4 a5) (hn : n ≤ 96) {t : Nat} (ht : t < 4) {r : Nat} (hr : r < 8) (h6 : ¬ a6 t = 0)
    {o s : Int64} (ho : mv_own a8 a9 t o) (h7 : a7 t ||| o = s) {w : Nat → Option Nat} (hw : mv_w P mk en s w) (hp : post (mv_vo (w r) r)) :
    wpX_get post (c, f, a1, a2, a3, a4, a5, a6, a7, a8, a9, a10, a11, a12) (nI t) (nI r) := by
  unfold wpX_get
  refine mv_wRefR ht hr h6 (br_t (by decide) (mv_wVO T hn ht ho h7 hr (w r) (hw.1 r hr) (hw.2 r hr) (fun e => br_f (by decide) ?_) (fun i k e hi hk hri => br_t (nI_pos' (by omega)) ⟨pk_in i 96 (by omega), ?_⟩)))
  · rw [e] at hp
    exact hp
  · rw [nI_clamp (show i < 2 ^ 31 by omega), (T.2.1 i hi).2.2.1, hk, hri]
    rw [e] at hp
    exact hp
theorem mv_wHas {post : Int32 → Prop} (T : mv_tb P mk en n kd ro a1 a2 a3 a4 a5) (hn : n ≤ 96) {t : Nat} (ht : t < 4) {r : Nat} (hr : r < 8) (h6 : ¬ a6 t = 0)
    {o s : Int64} (ho : mv_own a8 a9 t o) (h7 : a7 t ||| o = s) {w : Nat → Option Nat} (hw : mv_w P mk en s w) (hp : post (if (w r).isSome = true then 1 else 0)) :
    wpX_has post (c, f, a1, a2, a3, a4, a5, a6, a7, a8, a9, a10, a11, a12) (nI t) (nI r) := by
  unfold wpX_has
  refine mv_wRefR ht hr h6 (br_t (by decide) (mv_wVO T hn ht ho h7 hr (w r) (hw.1 r hr) (hw.2 r hr) (fun e => br_t (by decide) ?_) (fun i k e hi hk hri => br_f (nI_pos (by omega)) ?_)))
  · rw [e] at hp
    exact hp
  · rw [e] at hp
    exact hp
theorem mv_wCom {post : Int32 → Prop} (T : mv_tb P mk en n kd ro a1 a2 a3 a4 a5) (hn : n ≤ 96) {r : Nat} (hr : r < 8)
    {w : Nat → Option Nat} (hw : mv_w P mk en c w) (hp : post (mv_vo (w r) r)) :
    wpX_committed post (c, f, a1, a2, a3, a4, a5, a6, a7, a8, a9, a10, a11, a12) (nI r) := by
  unfold wpX_committed
  refine br_f (nI_pos (by omega)) (br_t (nI_lt (b := 8) hr (by omega)) (mv_wVF T hn hr (w r) (hw.1 r hr) (hw.2 r hr) (fun e => br_f (by decide) ?_) (fun i k e hi hk hri => br_t (nI_pos' (by omega)) ⟨pk_in i 96 (by omega), ?_⟩)))
  · rw [e] at hp
    exact hp
  · rw [nI_clamp (show i < 2 ^ 31 by omega), (T.2.1 i hi).2.2.1, hk, hri]
    rw [e] at hp
    exact hp
def mv_cnt (w : Nat → Option Nat) : Nat → Int32
  | 0 => 0
  | i + 1 => if (w i).isSome = true then mv_cnt w i + 1 else mv_cnt w i
theorem mv_cntS {w : Nat → Option Nat} {i k : Nat} (e : w i = some k) : mv_cnt w i + 1 = mv_cnt w (i + 1) := by
  show _ = if (w i).isSome = true then mv_cnt w i + 1 else mv_cnt w i
  rw [e]
  rfl
theorem mv_cntN {w : Nat → Option Nat} {i : Nat} (e : w i = none) : mv_cnt w i = mv_cnt w (i + 1) := by
  show _ = if (w i).isSome = true then mv_cnt w i + 1 else mv_cnt w i
  rw [e]
  rfl
def mv_sum (w : Nat → Option Nat) : Nat → Int32
  | 0 => 0
  | i + 1 => mv_sum w i + mv_vo (w i) i
theorem mv_sumN {w : Nat → Option Nat} {i : Nat} (e : w i = none) : mv_sum w i = mv_sum w (i + 1) := by
  show _ = mv_sum w i + mv_vo (w i) i
  rw [e]
  exact (Int32.add_zero _).symm
theorem mv_sumS {w : Nat → Option Nat} {i k : Nat} (e : w i = some k) : mv_sum w i + mv_va k i = mv_sum w (i + 1) := by
  show _ = mv_sum w i + mv_vo (w i) i
  rw [e]
  rfl
theorem mv_wCnt {post : Int32 → Prop} (T : mv_tb P mk en n kd ro a1 a2 a3 a4 a5) (hn : n ≤ 96) {t : Nat} (ht : t < 4) (h6 : ¬ a6 t = 0)
    {o s : Int64} (ho : mv_own a8 a9 t o) (h7 : a7 t ||| o = s) {w : Nat → Option Nat} (hw : mv_w P mk en s w) (hp : post (mv_cnt w 8)) :
    wpX_count post (c, f, a1, a2, a3, a4, a5, a6, a7, a8, a9, a10, a11, a12) (nI t) := by
  unfold wpX_count
  refine mv_wRef ht h6 (br_t (by decide) ?_)
  refine pk_loop (fun m i x => wX_count_17 post (nI t) c f a1 a2 a3 a4 a5 a6 a7 a8 a9 a10 a11 a12 m x (nI i)) (fun i x => x = mv_cnt w i) 8 0 0 (by omega) rfl ?_ ?_
  · intro m x hx
    refine pk_le 8 8 (fun _ => ?_) (fun z => absurd z (by omega))
    rw [hx]
    exact hp
  · intro m i x hi hx hW
    refine pk_le 8 i (fun z => absurd z (by omega)) (fun _ => mv_wVO T hn ht ho h7 hi (w i) (hw.1 i hi) (hw.2 i hi) (fun e => br_f (by decide) (nm_r (nI_1 i) (hW _ ?_))) (fun j k e hj hk hri => br_t (nI_pos' (by omega)) (nm_e (nm_r (nI_1 i) (hW _ ?_)))))
    · rw [hx]
      exact mv_cntN e
    · rw [hx]
      exact mv_cntS e
theorem mv_wSum {post : Int32 → Prop} (T : mv_tb P mk en n kd ro a1 a2 a3 a4 a5) (hn : n ≤ 96) {t : Nat} (ht : t < 4) (h6 : ¬ a6 t = 0)
    {o s : Int64} (ho : mv_own a8 a9 t o) (h7 : a7 t ||| o = s) {w : Nat → Option Nat} (hw : mv_w P mk en s w) (hp : post (mv_sum w 8)) :
    wpX_sum post (c, f, a1, a2, a3, a4, a5, a6, a7, a8, a9, a10, a11, a12) (nI t) := by
  unfold wpX_sum
  refine mv_wRef ht h6 (br_t (by decide) ?_)
  refine pk_loop (fun m i x => wX_sum_17 post (nI t) c f a1 a2 a3 a4 a5 a6 a7 a8 a9 a10 a11 a12 m x (nI i)) (fun i x => x = mv_sum w i) 8 0 0 (by omega) rfl ?_ ?_
  · intro m x hx
    refine pk_le 8 8 (fun _ => ?_) (fun z => absurd z (by omega))
    rw [hx]
    exact hp
  · intro m i x hi hx hW
    refine pk_le 8 i (fun z => absurd z (by omega)) (fun _ => mv_wVO T hn ht ho h7 hi (w i) (hw.1 i hi) (hw.2 i hi) (fun e => br_f (by decide) (nm_r (nI_1 i) (hW _ ?_))) (fun j k e hj hk hri => br_t (nI_pos' (by omega)) ⟨pk_in j 96 (by omega), nm_e (nm_r (nI_1 i) (hW _ ?_))⟩))
    · rw [hx]
      exact mv_sumN e
    · rw [hx, nI_clamp (show j < 2 ^ 31 by omega), (T.2.1 j hj).2.2.1, hk, hri]
      exact mv_sumS e
theorem mv_wRows {post : Int32 → Prop} (T : mv_tb P mk en n kd ro a1 a2 a3 a4 a5) (hn : n ≤ 96) {w : Nat → Option Nat} (hw : mv_w P mk en c w) (hp : post (mv_cnt w 8)) :
    wpX_rows post (c, f, a1, a2, a3, a4, a5, a6, a7, a8, a9, a10, a11, a12) := by
  refine pk_loop (fun m i x => wX_rows_4 post c f a1 a2 a3 a4 a5 a6 a7 a8 a9 a10 a11 a12 m x (nI i)) (fun i x => x = mv_cnt w i) 8 0 0 (by omega) rfl ?_ ?_
  · intro m x hx
    refine pk_le 8 8 (fun _ => ?_) (fun z => absurd z (by omega))
    rw [hx]
    exact hp
  · intro m i x hi hx hW
    refine pk_le 8 i (fun z => absurd z (by omega)) (fun _ => mv_wVF T hn hi (w i) (hw.1 i hi) (hw.2 i hi) (fun e => br_f (by decide) (nm_r (nI_1 i) (hW _ ?_))) (fun j k e hj hk hri => br_t (nI_pos' (by omega)) (nm_e (nm_r (nI_1 i) (hW _ ?_)))))
    · rw [hx]
      exact mv_cntN e
    · rw [hx]
      exact mv_cntS e
def mv_hit (w : Nat → Option Nat) (fr : Nat) (v : Int32) (i : Nat) : Bool := decide (fr ≤ i) && ((w i).isSome && !decide (mv_vo (w i) i < v))
def mv_fs (hit : Nat → Bool) : Nat → Int32
  | 0 => -3
  | i + 1 => if hit i = true ∧ mv_fs hit i < 0 then nI i else mv_fs hit i
theorem mv_fsN {hit : Nat → Bool} : ∀ i, (∀ j, j < i → hit j = false) → mv_fs hit i = -3 := by
  intro i
  induction i with
  | zero => intro _; rfl
  | succ i ih =>
    intro h
    show (if hit i = true ∧ mv_fs hit i < 0 then nI i else mv_fs hit i) = -3
    rw [if_neg (by rw [h i (by omega)]; exact fun z => absurd z.1 (by decide))]
    exact ih (fun j hj => h j (by omega))
theorem mv_fsS {hit : Nat → Bool} {i : Nat} (hi : i < 8) (h : hit i = true) (hb : ∀ j, j < i → hit j = false) : ∀ d, mv_fs hit (i + 1 + d) = nI i := by
  intro d
  induction d with
  | zero =>
    show (if hit i = true ∧ mv_fs hit i < 0 then nI i else mv_fs hit i) = nI i
    rw [if_pos ⟨h, by rw [mv_fsN i hb]; decide⟩]
  | succ d ih =>
    show (if hit (i + 1 + d) = true ∧ mv_fs hit (i + 1 + d) < 0 then nI (i + 1 + d) else mv_fs hit (i + 1 + d)) = nI i
    rw [if_neg (by rw [ih]; exact fun z => absurd z.2 (nI_pos (by omega)))]
    exact ih
theorem mv_wFind {post : Int32 → Prop} (T : mv_tb P mk en n kd ro a1 a2 a3 a4 a5) (hn : n ≤ 96) {t : Nat} (ht : t < 4) (h6 : ¬ a6 t = 0)
    {o s : Int64} (ho : mv_own a8 a9 t o) (h7 : a7 t ||| o = s) {w : Nat → Option Nat} (hw : mv_w P mk en s w) {fr : Nat} (hfr : fr < 8) {v : Int32} (hp : post (mv_fs (mv_hit w fr v) 8)) :
    wpX_find post (c, f, a1, a2, a3, a4, a5, a6, a7, a8, a9, a10, a11, a12) (nI t) (nI fr) v := by
  unfold wpX_find
  refine mv_wRef ht h6 (br_t (by decide) (br_t (nI_pos' (by omega)) ?_))
  refine pk_loop (σ := Unit) (fun m i _ => wX_find_26 post (nI t) v c f a1 a2 a3 a4 a5 a6 a7 a8 a9 a10 a11 a12 m (nI i)) (fun i _ => fr ≤ i ∧ ∀ j, j < i → mv_hit w fr v j = false) 8 fr () (by omega) ⟨Nat.le_refl _, ?_⟩ ?_ ?_
  · intro j hj
    unfold mv_hit
    rw [decide_eq_false (by omega), Bool.false_and]
  · intro m _ hI
    refine pk_le 8 8 (fun _ => ?_) (fun z => absurd z (by omega))
    rw [mv_fsN 8 hI.2] at hp
    exact hp
  · intro m i _ hi hI hW
    have next : mv_hit w fr v i = false → wX_find_26 post (nI t) v c f a1 a2 a3 a4 a5 a6 a7 a8 a9 a10 a11 a12 m (nI (i + 1)) := fun hh => hW () ⟨by omega, lt_s hI.2 hh⟩
    refine pk_le 8 i (fun z => absurd z (by omega)) (fun _ => mv_wVO T hn ht ho h7 hi (w i) (hw.1 i hi) (hw.2 i hi) (fun e => br_t (by decide) (nm_r (nI_1 i) (next ?_))) (fun j k e hj hk hri => br_f (nI_pos (by omega)) ⟨pk_in j 96 (by omega), ?_⟩))
    · unfold mv_hit
      rw [e]
      simp
    · rw [nI_clamp (show j < 2 ^ 31 by omega), (T.2.1 j hj).2.2.1, hk, hri]
      by_cases hv : mv_va k i < v
      · refine br_t hv (nm_r (nI_1 i) (next ?_))
        unfold mv_hit
        rw [e]
        have q : mv_vo (some k) i < v := hv
        simp [q]
      · refine br_f hv ?_
        have q : ¬ mv_vo (some k) i < v := hv
        have g : mv_hit w fr v i = true := by
          unfold mv_hit
          rw [e, decide_eq_true hI.1, decide_eq_false q]
          rfl
        have u := mv_fsS hi g hI.2 (7 - i)
        rw [show i + 1 + (7 - i) = 8 by omega] at u
        rw [u] at hp
        exact hp
def mv_oc (a6 : Nat → Int32) : Nat → Int32
  | 0 => 0
  | i + 1 => if a6 i = 0 then mv_oc a6 i else mv_oc a6 i + 1
theorem mv_wCrash {post : Int32 → St2 → Prop} (hp : ∀ b6, post (mv_oc a6 4) (c, 0, a1, a2, a3, a4, a5, b6, a7, a8, a9, a10, a11, a12)) :
    wpX_crash post (c, f, a1, a2, a3, a4, a5, a6, a7, a8, a9, a10, a11, a12) := by
  refine pk_loop (σ := Int32 × (Nat → Int32)) (fun m i s => wX_crash_4 post c f m s.1 (nI i) a1 a2 a3 a4 a5 s.2 a7 a8 a9 a10 a11 a12) (fun i s => s.1 = mv_oc a6 i ∧ ∀ j, i ≤ j → s.2 j = a6 j) 4 0 (0, a6) (by omega) ⟨rfl, fun _ _ => rfl⟩ ?_ ?_
  · intro m s hI
    refine pk_le 4 4 (fun _ => ?_) (fun z => absurd z (by omega))
    rw [hI.1]
    exact hp _
  · intro m i s hi hI hW
    have hU : ∀ j, i + 1 ≤ j → upd s.2 i 0 j = a6 j := fun j hj => by rw [pk_un (by omega)]; exact hI.2 j (by omega)
    refine pk_le 4 i (fun z => absurd z (by omega)) (fun _ => ⟨pk_in i 4 hi, ?_⟩)
    rw [nI_clamp (show i < 2 ^ 31 by omega), hI.2 i (Nat.le_refl i)]
    by_cases h0 : a6 i = 0
    · refine br_t h0 ⟨pk_in i 4 hi, nm_e (nm_r (nI_1 i) (hW (s.1, upd s.2 i 0) ⟨?_, hU⟩))⟩
      show s.1 = if a6 i = 0 then mv_oc a6 i else mv_oc a6 i + 1
      rw [if_pos h0]
      exact hI.1
    · refine br_f h0 (nm_e ⟨pk_in i 4 hi, nm_e (nm_r (nI_1 i) (hW (s.1 + 1, upd s.2 i 0) ⟨?_, hU⟩))⟩)
      show s.1 + 1 = if a6 i = 0 then mv_oc a6 i else mv_oc a6 i + 1
      rw [if_neg h0, hI.1]
theorem mv_wSize {post : Int32 → Prop} {x : Int32} (hp : ∀ j : Nat, j ≤ 8 → post (nI j)) :
    wpX_sizeOf post (c, f, a1, a2, a3, a4, a5, a6, a7, a8, a9, a10, a11, a12) x := by
  refine pk_loop (fun m i y => wX_sizeOf_4 post x c f a1 a2 a3 a4 a5 a6 a7 a8 a9 a10 a11 a12 m y (nI i)) (fun i y => ∃ j : Nat, j ≤ i ∧ y = nI j) 8 0 0 (by omega) ⟨0, by omega, rfl⟩ ?_ ?_
  · intro m y hI
    refine pk_le 8 8 (fun _ => ?_) (fun z => absurd z (by omega))
    obtain ⟨j, hj, e⟩ := hI
    rw [e]
    exact hp j hj
  · intro m i y hi hI hW
    obtain ⟨j, hj, e⟩ := hI
    refine pk_le 8 i (fun z => absurd z (by omega)) (fun _ => nm_e (nm_r (nI_1 i) (hW _ ?_)))
    rw [mv_bv x hi, e]
    by_cases h : mv_t x i = true
    · rw [if_pos h]
      exact ⟨j + 1, by omega, nI_1 j⟩
    · rw [if_neg h]
      exact ⟨j, by omega, Int32.add_zero _⟩
theorem mv_wClose1 {post : Int32 → St2 → Prop} {t : Nat} {x : Int32} {o : Int64} (ht : t < 4) (hc : mv_chg a8 a10 t x) (ho : mv_own a8 a9 t o)
    (hp : ∀ (j : Nat) (b11 : Nat → Int32), j ≤ 8 → (∀ u, u < 4 → b11 u = a11 u ||| x) → post (nI j) (c ||| o, f &&& (o ^^^ (-1)), a1, a2, a3, a4, a5, upd a6 t 0, a7, a8, a9, a10, b11, a12)) :
    wpX_close post (c, f, a1, a2, a3, a4, a5, a6, a7, a8, a9, a10, a11, a12) (nI t) 1 := by
  unfold wpX_close
  refine mv_wChg ht hc (mv_wOwn ht ho (nm_e ⟨pk_in t 4 ht, ?_⟩))
  rw [nI_clamp (show t < 2 ^ 31 by omega)]
  refine nm_e (br_f (by decide) (nm_e ?_))
  refine pk_loop (fun m i s => wX_close_53 post x (c ||| o) (f &&& (o ^^^ (-1))) m (nI i) a1 a2 a3 a4 a5 (upd a6 t 0) a7 a8 a9 a10 s a12) (fun i s => (∀ u, u < i → s u = a11 u ||| x) ∧ (∀ u, i ≤ u → s u = a11 u)) 4 0 a11 (by omega) ⟨fun u hu => absurd hu (by omega), fun _ _ => rfl⟩ ?_ ?_
  · intro m s hI
    refine pk_le 4 4 (fun _ => ?_) (fun z => absurd z (by omega))
    unfold wX_close_81
    exact mv_wSize (fun j hj => hp j s hj hI.1)
  · intro m i s hi hI hW
    refine pk_le 4 i (fun z => absurd z (by omega)) (fun _ => ⟨pk_in i 4 hi, pk_in i 4 hi, ?_⟩)
    rw [nI_clamp (show i < 2 ^ 31 by omega)]
    refine nm_e (nm_r (nI_1 i) (hW _ ⟨fun u hu => ?_, fun u hu => ?_⟩))
    · by_cases e : u = i
      · rw [e, pk_us, hI.2 i (Nat.le_refl i)]
      · rw [pk_un e]
        exact hI.1 u (by omega)
    · rw [pk_un (by omega)]
      exact hI.2 u (by omega)
theorem mv_wClose0 {post : Int32 → St2 → Prop} {t : Nat} {x : Int32} {o : Int64} (ht : t < 4) (hc : mv_chg a8 a10 t x) (ho : mv_own a8 a9 t o)
    (hp : ∀ (j : Nat), j ≤ 8 → post (nI j) (c, f &&& (o ^^^ (-1)), a1, a2, a3, a4, a5, upd a6 t 0, a7, a8, a9, a10, a11, a12)) :
    wpX_close post (c, f, a1, a2, a3, a4, a5, a6, a7, a8, a9, a10, a11, a12) (nI t) 0 := by
  unfold wpX_close
  refine mv_wChg ht hc (mv_wOwn ht ho (nm_e ⟨pk_in t 4 ht, ?_⟩))
  rw [nI_clamp (show t < 2 ^ 31 by omega)]
  refine nm_e (br_t rfl ?_)
  unfold wX_close_81
  exact mv_wSize (fun j hj => hp j hj)
theorem mv_wCommit {post : Int32 → St2 → Prop} {t : Nat} {x : Int32} {o : Int64} (ht : t < 4) (h6 : ¬ a6 t = 0) (hc : mv_chg a8 a10 t x) (ho : mv_own a8 a9 t o)
    (hp : ∀ (j : Nat) (b11 : Nat → Int32), j ≤ 8 → (∀ u, u < 4 → b11 u = a11 u ||| x) → post (nI j) (c ||| o, f &&& (o ^^^ (-1)), a1, a2, a3, a4, a5, upd a6 t 0, a7, a8, a9, a10, b11, a12)) :
    wpX_commit post (c, f, a1, a2, a3, a4, a5, a6, a7, a8, a9, a10, a11, a12) (nI t) := by
  unfold wpX_commit
  exact mv_wRef ht h6 (br_t (by decide) (mv_wClose1 ht hc ho hp))
theorem mv_wAbort {post : Int32 → St2 → Prop} {t : Nat} {x : Int32} {o : Int64} (ht : t < 4) (h6 : ¬ a6 t = 0) (hc : mv_chg a8 a10 t x) (ho : mv_own a8 a9 t o)
    (hp : ∀ (j : Nat), j ≤ 8 → post (nI j) (c, f &&& (o ^^^ (-1)), a1, a2, a3, a4, a5, upd a6 t 0, a7, a8, a9, a10, a11, a12)) :
    wpX_abort post (c, f, a1, a2, a3, a4, a5, a6, a7, a8, a9, a10, a11, a12) (nI t) := by
  unfold wpX_abort
  exact mv_wRef ht h6 (br_t (by decide) (mv_wClose0 ht hc ho hp))
theorem mv_wChanged {post : Int32 → Prop} {t : Nat} {x : Int32} (ht : t < 4) (h6 : ¬ a6 t = 0) (hc : mv_chg a8 a10 t x) (hp : post x) :
    wpX_changed post (c, f, a1, a2, a3, a4, a5, a6, a7, a8, a9, a10, a11, a12) (nI t) := by
  unfold wpX_changed
  exact mv_wRef ht h6 (br_t (by decide) (mv_wChg ht hc hp))
end
end
section
section
variable {c f : Int64} {a1 a2 a3 a4 a5 a6 : Nat → Int32} {a7 : Nat → Int64} {a8 a9 a10 a11 a12 : Nat → Int32}
variable {P : Nat → Nat → Prop} {mk mk' en : Nat → Nat → Int32} {n : Nat} {kd ro : Nat → Nat}
def mv_tst (x : Int64) (p : Int32) : Int64 := ((x.toUInt64 >>> (p.toInt64.toUInt64 &&& Int64.toUInt64 63)).toInt64) &&& 1
theorem mv_wFN59 {post : Int32 → Prop} {x : Int64} {m : Nat} (hm1 : 1 ≤ m) (hm : m < 63) (hb : ∀ j, j < m → 1 ≤ j → ¬ mv_tst x (nI j) = 0) (hc : mv_tst x (nI m) = 0) (hp : post (nI m)) :
    ∃ fu, wX_freeNumber_59 post x c f a1 a2 a3 a4 a5 a6 a7 a8 a9 a10 a11 a12 fu 1 := by
  refine pk_loop (σ := Unit) (fun q i _ => wX_freeNumber_59 post x c f a1 a2 a3 a4 a5 a6 a7 a8 a9 a10 a11 a12 q (nI i)) (fun i _ => 1 ≤ i) m 1 () hm1 (Nat.le_refl 1) ?_ ?_
  · intro q _ _
    exact pk_le 63 m (fun z => absurd z (by omega)) (fun _ => br_t hc hp)
  · intro q i _ hi h1 hW
    exact pk_le 63 i (fun z => absurd z (by omega)) (fun _ => br_f (hb i hi h1) (nm_r (nI_1 i) (hW () (by omega))))
theorem mv_wFN {post : Int32 → Prop} (T : mv_tb P mk en n kd ro a1 a2 a3 a4 a5) (hn : n ≤ 96) (S0 S1 : Int64) (hS : c ||| f = S0)
    (hb : ∀ k s, P k s → ∀ x, (x = S0 ∨ x = S1) → ((x ||| mv_bit (mk k s)) ||| mv_bit (en k s) = S0 ∨ (x ||| mv_bit (mk k s)) ||| mv_bit (en k s) = S1)) {m : Nat} (hm1 : 1 ≤ m) (hm : m < 63)
    (h0 : ∀ j, j < m → 1 ≤ j → ¬ mv_tst S0 (nI j) = 0) (h0' : mv_tst S0 (nI m) = 0) (h1 : ∀ j, j < m → 1 ≤ j → ¬ mv_tst S1 (nI j) = 0) (h1' : mv_tst S1 (nI m) = 0) (hp : post (nI m)) :
    wpX_freeNumber post (c, f, a1, a2, a3, a4, a5, a6, a7, a8, a9, a10, a11, a12) := by
  obtain ⟨t0, t1, t2, t3⟩ := T
  unfold wpX_freeNumber
  refine nm_r hS ?_
  refine pk_loop (fun q i x => wX_freeNumber_12 post c f a1 a2 a3 a4 a5 a6 a7 a8 a9 a10 a11 a12 q x (nI i)) (fun _ x => x = S0 ∨ x = S1) 96 0 S0 (by omega) (Or.inl rfl) ?_ ?_
  · intro q x hx
    refine pk_le 96 96 (fun _ => ?_) (fun z => absurd z (by omega))
    rcases hx with e | e
    · rw [e]
      exact mv_wFN59 hm1 hm h0 h0' hp
    · rw [e]
      exact mv_wFN59 hm1 hm h1 h1' hp
  · intro q i x hi hx hW
    refine pk_le 96 i (fun z => absurd z (by omega)) (fun _ => ⟨pk_in i 96 hi, ?_⟩)
    rw [nI_clamp (show i < 2 ^ 31 by omega)]
    rcases Nat.lt_or_ge i n with hin | hin
    · obtain ⟨e1, e2, e3, e4, e5, e6, e7⟩ := t1 i hin
      refine br_f (by rw [e1]; decide) ⟨pk_in i 96 hi, pk_in i 96 hi, nm_e (nm_r (nI_1 i) (hW _ ?_))⟩
      show (x ||| mv_bit (a4 i)) ||| mv_bit (a5 i) = S0 ∨ (x ||| mv_bit (a4 i)) ||| mv_bit (a5 i) = S1
      rw [e4, e5]
      exact hb _ _ e7 x hx
    · exact br_t (t0 i hin hi) (nm_r (nI_1 i) (hW x hx))
theorem mv_wNN {post : Int32 → St2 → Prop} {m : Nat} (hm1 : 1 ≤ m) (hm : m < 63) (hfn : ∀ q : Int32 → Prop, q (nI m) → wpX_freeNumber q (c, f, a1, a2, a3, a4, a5, a6, a7, a8, a9, a10, a11, a12))
    (hp : post (nI m) (c, f ||| mv_bit (nI m), a1, a2, a3, a4, a5, a6, a7, a8, a9, a10, a11, a12)) :
    wpX_newNumber post (c, f, a1, a2, a3, a4, a5, a6, a7, a8, a9, a10, a11, a12) := by
  unfold wpX_newNumber
  refine hfn _ (br_f (nI_ne0 hm1 (by omega)) ?_)
  unfold wX_newNumber_18
  exact nm_e hp
theorem mv_wOpen {post : Int32 → St2 → Prop} {t m : Nat} (ht : t < 4) (h6 : a6 t = 0) (hm1 : 1 ≤ m) (hm : m < 63) (hfn : ∀ q : Int32 → Prop, q (nI m) → wpX_freeNumber q (c, f, a1, a2, a3, a4, a5, a6, a7, a8, a9, a10, a11, a12))
    (hp : post 0 (c, f ||| mv_bit (nI m), a1, a2, a3, a4, a5, upd a6 t 1, vp_updL a7 t c, upd a8 t 0, upd a9 (t * 4) (nI m), upd a10 (t * 4) 0, upd a11 t 0, a12)) :
    wpX_open post (c, f, a1, a2, a3, a4, a5, a6, a7, a8, a9, a10, a11, a12) (nI t) := by
  unfold wpX_open
  refine mv_wRefC ht h6 (br_t rfl (mv_wNN hm1 hm hfn ⟨pk_in t 4 ht, ?_⟩))
  rw [nI_clamp (show t < 2 ^ 31 by omega), mv_ix0, nI_clamp (show t * 4 < 2 ^ 31 by omega)]
  have hv : vp_in (nI t) 4 := pk_in t 4 ht
  have hv4 : vp_in (nI (t * 4)) 16 := pk_in (t * 4) 16 (by omega)
  exact nm_e ⟨hv, nm_e ⟨hv, nm_e ⟨hv4, nm_e ⟨hv4, nm_e ⟨hv, nm_e hp⟩⟩⟩⟩⟩
theorem mv_wSave {post : Int32 → St2 → Prop} {t m : Nat} (ht : t < 4) (h6 : ¬ a6 t = 0) (h8 : a8 t = nI 0) (hm1 : 1 ≤ m) (hm : m < 63) (hfn : ∀ q : Int32 → Prop, q (nI m) → wpX_freeNumber q (c, f, a1, a2, a3, a4, a5, a6, a7, a8, a9, a10, a11, a12))
    (hp : post 1 (c, f ||| mv_bit (nI m), a1, a2, a3, a4, a5, a6, a7, upd a8 t (nI 1), upd a9 (t * 4 + 1) (nI m), upd a10 (t * 4 + 1) 0, a11, a12)) :
    wpX_save post (c, f, a1, a2, a3, a4, a5, a6, a7, a8, a9, a10, a11, a12) (nI t) := by
  have hv : vp_in (nI t) 4 := pk_in t 4 ht
  have hv4 : vp_in (nI (t * 4 + 1)) 16 := pk_in (t * 4 + 1) 16 (by omega)
  unfold wpX_save
  refine mv_wRef ht h6 (br_t (by decide) ⟨hv, ?_⟩)
  rw [nI_clamp (show t < 2 ^ 31 by omega), h8]
  refine br_f (by decide) (mv_wNN hm1 hm hfn ⟨hv, hv, ?_⟩)
  rw [h8]
  refine nm_r (e' := upd a8 t (nI 1)) rfl (mv_wCur (lv := 1) ht pk_us ⟨hv4, ?_⟩)
  rw [nI_clamp (show t * 4 + 1 < 2 ^ 31 by omega)]
  refine nm_e (mv_wCur (lv := 1) ht pk_us ⟨hv4, ?_⟩)
  rw [nI_clamp (show t * 4 + 1 < 2 ^ 31 by omega)]
  refine nm_e ⟨hv, ?_⟩
  rw [pk_us]
  exact hp
theorem mv_wBack {post : Int32 → St2 → Prop} {t : Nat} {m : Int32} (ht : t < 4) (h6 : ¬ a6 t = 0) (h8 : a8 t = nI 1) (h9 : a9 (t * 4 + 1) = m)
    (hp : post 0 (c, f &&& (mv_bit m ^^^ (-1)), a1, a2, a3, a4, a5, a6, a7, upd a8 t (nI 0), a9, a10, a11, a12)) :
    wpX_back post (c, f, a1, a2, a3, a4, a5, a6, a7, a8, a9, a10, a11, a12) (nI t) := by
  have hv : vp_in (nI t) 4 := pk_in t 4 ht
  have hv4 : vp_in (nI (t * 4 + 1)) 16 := pk_in (t * 4 + 1) 16 (by omega)
  unfold wpX_back
  refine mv_wRef ht h6 (br_t (by decide) ⟨hv, ?_⟩)
  rw [nI_clamp (show t < 2 ^ 31 by omega), h8]
  refine br_f (by decide) (mv_wCur ht h8 ⟨hv4, ?_⟩)
  rw [nI_clamp (show t * 4 + 1 < 2 ^ 31 by omega), h9]
  refine nm_e ⟨hv, hv, nm_r (e' := upd a8 t (nI 0)) rfl ⟨hv, ?_⟩⟩
  rw [pk_us]
  exact hp
theorem mv_wOver {post : Int32 → Prop} {e : Int32} (h : mv_in (c ||| f) e = true) (hp : post 0) : wpX_over post (c, f, a1, a2, a3, a4, a5, a6, a7, a8, a9, a10, a11, a12) e := by
  unfold wpX_over
  by_cases h0 : e = 0
  · exact br_t h0 hp
  · exact br_f h0 (mv_wInT h (br_f (by decide) hp))
theorem mv_wDead {post : Int32 → Prop} {i : Nat} (hi : i < 96) (hm : mv_in (c ||| f) (a4 i) = true) (hne : ¬ a4 i = a5 i) (he : a5 i = 0 ∨ mv_in c (a5 i) = false) (hp : post 0) :
    wpX_dead post (c, f, a1, a2, a3, a4, a5, a6, a7, a8, a9, a10, a11, a12) (nI i) := by
  have hv : vp_in (nI i) 96 := pk_in i 96 hi
  unfold wpX_dead
  refine ⟨hv, ?_⟩
  rw [nI_clamp (show i < 2 ^ 31 by omega)]
  refine mv_wOver hm (br_t rfl ⟨hv, hv, br_f hne ?_⟩)
  unfold wX_dead_39
  refine ⟨hv, ?_⟩
  rw [nI_clamp (show i < 2 ^ 31 by omega)]
  by_cases h0 : a5 i = 0
  · exact br_t h0 hp
  · rcases he with z | z
    · exact absurd z h0
    · exact br_f h0 ⟨hv, mv_wInF z (br_t rfl hp)⟩
theorem mv_or4 : ∀ i, i < 4 → nI (2 ^ i - 1) ||| ((1 : Int32) <<< (nI i &&& 31)) = nI (2 ^ (i + 1) - 1) := by decide +kernel
theorem mv_wPat {post : Int32 → Prop} {p : Int32} (h : ∀ t, t < 4 → a6 t = 0 ∨ mv_in (a7 t) p = true) (hp : post 15) :
    wpX_pattern post (c, f, a1, a2, a3, a4, a5, a6, a7, a8, a9, a10, a11, a12) p := by
  refine pk_loop (fun m i x => wX_pattern_4 post p c f a1 a2 a3 a4 a5 a6 a7 a8 a9 a10 a11 a12 m x (nI i)) (fun i x => x = nI (2 ^ i - 1)) 4 0 0 (by omega) rfl ?_ ?_
  · intro m x hx
    refine pk_le 4 4 (fun _ => ?_) (fun z => absurd z (by omega))
    rw [hx]
    exact hp
  · intro m i x hi hx hW
    have next : wX_pattern_32 post (wX_pattern_4 post p c f a1 a2 a3 a4 a5 a6 a7 a8 a9 a10 a11 a12 m) p x (nI i) c f a1 a2 a3 a4 a5 a6 a7 a8 a9 a10 a11 a12 := by
      unfold wX_pattern_32
      exact nm_e (nm_r (nI_1 i) (hW _ (by rw [hx]; exact mv_or4 i hi)))
    refine pk_le 4 i (fun z => absurd z (by omega)) (fun _ => ⟨pk_in i 4 hi, ?_⟩)
    rw [nI_clamp (show i < 2 ^ 31 by omega)]
    by_cases h0 : a6 i = 0
    · exact br_t h0 next
    · rcases h i hi with z | z
      · exact absurd z h0
      · exact br_f h0 ⟨pk_in i 4 hi, mv_wInT z (br_f (by decide) next)⟩
theorem mv_wStN {post : Int32 → St2 → Prop} {p : Int32} (h : p = 0 ∨ mv_tst c p = 0) (hp : post p (c, f, a1, a2, a3, a4, a5, a6, a7, a8, a9, a10, a11, a12)) :
    wpX_standing post (c, f, a1, a2, a3, a4, a5, a6, a7, a8, a9, a10, a11, a12) p := by
  unfold wpX_standing
  by_cases h0 : p = 0
  · exact br_t h0 hp
  · rcases h with z | z
    · exact absurd z h0
    · exact br_f h0 (br_t z hp)
theorem mv_wStN2 {post : Int32 → St2 → Prop} {p : Int32} (h : p = 0 ∨ mv_tst c p = 0) (hp : post p (c, f, a1, a2, a3, a4, a5, a6, a7, a8, a9, a10, a11, a12)) :
    wpX_standing_2 post (c, f, a1, a2, a3, a4, a5, a6, a7, a8, a9, a10, a11, a12) p := by
  unfold wpX_standing_2
  by_cases h0 : p = 0
  · exact br_t h0 hp
  · rcases h with z | z
    · exact absurd z h0
    · exact br_f h0 (br_t z hp)
theorem mv_wSt0 {post : Int32 → St2 → Prop} {p : Int32} (h0 : ¬ p = 0) (hb : ¬ mv_tst c p = 0) (h : ∀ t, t < 4 → a6 t = 0 ∨ mv_in (a7 t) p = true) (hp : post 0 (c, f, a1, a2, a3, a4, a5, a6, a7, a8, a9, a10, a11, a12)) :
    wpX_standing post (c, f, a1, a2, a3, a4, a5, a6, a7, a8, a9, a10, a11, a12) p := by
  unfold wpX_standing
  exact br_f h0 (br_f hb (mv_wPat h (br_t rfl hp)))
theorem mv_updSame {a : Nat → Int32} {i : Nat} {x : Int32} (h : a i = x) : upd a i x = a := by
  funext j
  by_cases e : j = i
  · rw [e, pk_us, h]
  · rw [pk_un e]
theorem mv_tidyD {post : St2 → Prop} {x : Int64} (H : ∀ b7, (∀ j, j < 4 → b7 j = a7 j &&& x) → post (c, f, a1, a2, a3, a4, a5, a6, b7, a8, a9, a10, a11, a12)) :
    ∃ fu, wX_tidy_179 post x c f fu 0 a1 a2 a3 a4 a5 a6 a7 a8 a9 a10 a11 a12 := by
  refine pk_loop (fun m i s => wX_tidy_179 post x c f m (nI i) a1 a2 a3 a4 a5 a6 s a8 a9 a10 a11 a12) (fun i s => (∀ j, j < i → s j = a7 j &&& x) ∧ (∀ j, i ≤ j → s j = a7 j)) 4 0 a7 (by omega) ⟨fun j hj => absurd hj (by omega), fun _ _ => rfl⟩ ?_ ?_
  · intro m s hI
    exact pk_le 4 4 (fun _ => H s hI.1) (fun z => absurd z (by omega))
  · intro m i s hi hI hW
    refine pk_le 4 i (fun z => absurd z (by omega)) (fun _ => ⟨pk_in i 4 hi, pk_in i 4 hi, ?_⟩)
    rw [nI_clamp (show i < 2 ^ 31 by omega)]
    refine nm_e (nm_r (nI_1 i) (hW _ ⟨fun u hu => ?_, fun u hu => ?_⟩))
    · by_cases e : u = i
      · rw [e, pk_uLs, hI.2 i (Nat.le_refl i)]
      · rw [pk_uLn e]
        exact hI.1 u (by omega)
    · rw [pk_uLn (by omega)]
      exact hI.2 u (by omega)
theorem mv_tidyC {post : St2 → Prop} (T : mv_tb P mk en n kd ro a1 a2 a3 a4 a5) (hn : n ≤ 96)
    (hmk : ∀ k s, P k s → (mk k s = 1 ∧ mk' k s = 0) ∨ (mk k s = 2 ∧ mk' k s = 2)) (hen : ∀ k s, P k s → en k s = 0 ∨ en k s = 2 ∨ en k s = 4)
    (h67 : ∀ t, t < 4 → a6 t = 0 ∨ mv_in (a7 t) 1 = true)
    (H : ∀ b4 b7, mv_tb P mk' en n kd ro a1 a2 a3 b4 a5 → (∀ j, j < 4 → a7 j = 2 → b7 j = 0) → post (0, f, a1, a2, a3, b4, a5, a6, b7, a8, a9, a10, a11, a12)) :
    ∃ fu, wX_tidy_90 post fu 28 0 2 f a1 a2 a3 a4 a5 a6 a7 a8 a9 a10 a11 a12 := by
  obtain ⟨t0, t1, t2, t3⟩ := T
  refine pk_loop (σ := Int64 × (Nat → Int32)) (fun m i s => wX_tidy_90 post m s.1 (nI i) 2 f a1 a2 a3 s.2 a5 a6 a7 a8 a9 a10 a11 a12)
    (fun i s => (s.1 = 28 ∨ s.1 = 29) ∧ (∀ j, j < i → j < n → s.2 j = mk' (kd j) (ro j)) ∧ (∀ j, i ≤ j → s.2 j = a4 j)) 96 0 (28, a4) (by omega) ⟨Or.inl rfl, fun j hj => absurd hj (by omega), fun _ _ => rfl⟩ ?_ ?_
  · intro m s hI
    obtain ⟨h1, h2, h3⟩ := hI
    refine pk_le 96 96 (fun _ => nm_r (e' := 0) ?_ (mv_tidyD (fun b7 hb => ?_))) (fun z => absurd z (by omega))
    · rcases h1 with e | e
      · rw [e]
        decide
      · rw [e]
        decide
    · refine H s.2 b7 ⟨t0, fun i hi => ?_, t2, t3⟩ (fun j hj e7 => ?_)
      · obtain ⟨e1, e2, e3, e4, e5, e6, e7⟩ := t1 i hi
        exact ⟨e1, e2, e3, h2 i (by omega) hi, e5, e6, e7⟩
      · rw [hb j hj, e7]
        rcases h1 with e | e
        · rw [e]
          decide
        · rw [e]
          decide
  · intro m i s hi hI hW
    obtain ⟨h1, h2, h3⟩ := hI
    have hv : vp_in (nI i) 96 := pk_in i 96 hi
    refine pk_le 96 i (fun z => absurd z (by omega)) (fun _ => ⟨hv, ?_⟩)
    rw [nI_clamp (show i < 2 ^ 31 by omega)]
    rcases Nat.lt_or_ge i n with hin | hin
    · obtain ⟨e1, e2, e3, e4, e5, e6, e7⟩ := t1 i hin
      refine br_f (by rw [e1]; decide) ⟨hv, ?_⟩
      rw [h3 i (Nat.le_refl i)]
      have fin : ∀ x : Int32, x = mk' (kd i) (ro i) → (x = 0 ∨ x = 2) → (vp_in (nI i) 96 ∧ ∀ y, y = upd s.2 i x → (vp_in (nI i) 96 ∧ (wpX_standing_2 (fun r_54 u => match u with | (g1, g2, g3, g4, g5, g6, g7, g8, g9, g10, g11, g12, g13, g14) => (vp_in (nI i) 96 ∧ ∀ z, z = upd g7 i r_54 → (vp_in (nI i) 96 ∧ (wpX_bit (fun r_94 => (vp_in (nI i) 96 ∧ (wpX_bit (fun r_96 => (∀ x1, x1 = (s.1 ||| r_94) ||| r_96 → (∀ x3, x3 = nI i + 1 → (wX_tidy_90 post m x1 x3 g1 g2 g3 g4 g5 g6 z g8 g9 g10 g11 g12 g13 g14)))) (g1, g2, g3, g4, g5, g6, z, g8, g9, g10, g11, g12, g13, g14) (z i)))) (g1, g2, g3, g4, g5, g6, z, g8, g9, g10, g11, g12, g13, g14) (g6 i))))) (2, f, a1, a2, a3, y, a5, a6, a7, a8, a9, a10, a11, a12) (a5 i)))) := by
        intro x hx hx2
        have hen' := hen _ _ e7
        rw [← e5] at hen'
        have hst : a5 i = 0 ∨ mv_tst 2 (a5 i) = 0 := by
          rcases hen' with e | e | e
          · exact Or.inl e
          · rw [e]
            exact Or.inr (by decide)
          · rw [e]
            exact Or.inr (by decide)
        refine ⟨hv, nm_e ⟨hv, mv_wStN2 hst ⟨hv, nm_r (mv_updSame rfl) ⟨hv, ?_⟩⟩⟩⟩
        refine ⟨hv, nm_e (nm_r (nI_1 i) (hW (_, upd s.2 i x) ⟨?_, ?_, ?_⟩))⟩
        · show (s.1 ||| mv_bit (upd s.2 i x i)) ||| mv_bit (a5 i) = 28 ∨ (s.1 ||| mv_bit (upd s.2 i x i)) ||| mv_bit (a5 i) = 29
          rw [pk_us]
          rcases h1 with e | e <;> rcases hx2 with g | g <;> rcases hen' with q | q | q <;> rw [e, g, q] <;> decide
        · intro j hj hjn
          show upd s.2 i x j = _
          by_cases e : j = i
          · rw [e, pk_us, hx]
          · rw [pk_un e]
            exact h2 j (by omega) hjn
        · intro j hj
          show upd s.2 i x j = _
          rw [pk_un (by omega)]
          exact h3 j (by omega)
      rcases hmk _ _ e7 with ⟨g1, g2⟩ | ⟨g1, g2⟩
      · rw [← e4] at g1
        rw [g1]
        exact mv_wSt0 (by decide) (by decide) h67 (fin 0 g2.symm (Or.inl rfl))
      · rw [← e4] at g1
        rw [g1]
        exact mv_wStN (Or.inr (by decide)) (fin 2 g2.symm (Or.inr rfl))
    · refine br_t (t0 i hin hi) (nm_r (nI_1 i) (hW s ⟨h1, fun j hj hjn => h2 j (by omega) hjn, fun j hj => h3 j (by omega)⟩))
theorem mv_tidyB {post : St2 → Prop} (T : mv_tb P mk en n kd ro a1 a2 a3 a4 a5) (hn : n ≤ 96) {x : Int64}
    (hmk : ∀ k s, P k s → mv_in (c ||| f) (mk k s) = true ∧ mv_in (c ||| f) (en k s) = true ∧ ¬ mk k s = en k s ∧ (en k s = 0 ∨ mv_in c (en k s) = false))
    (H : ∃ fu, wX_tidy_90 post fu x 0 c f a1 a2 a3 a4 a5 a6 a7 a8 a9 a10 a11 a12) :
    ∃ fu, wX_tidy_28 post x c f fu 0 a1 a2 a3 a4 a5 a6 a7 a8 a9 a10 a11 a12 := by
  obtain ⟨t0, t1, t2, t3⟩ := T
  refine pk_loop (σ := Unit) (fun m i _ => wX_tidy_28 post x c f m (nI i) a1 a2 a3 a4 a5 a6 a7 a8 a9 a10 a11 a12) (fun _ _ => True) 96 0 () (by omega) trivial ?_ ?_
  · intro m _ _
    exact pk_le 96 96 (fun _ => H) (fun z => absurd z (by omega))
  · intro m i _ hi _ hW
    have hv : vp_in (nI i) 96 := pk_in i 96 hi
    refine pk_le 96 i (fun z => absurd z (by omega)) (fun _ => ⟨hv, ?_⟩)
    rw [nI_clamp (show i < 2 ^ 31 by omega)]
    rcases Nat.lt_or_ge i n with hin | hin
    · obtain ⟨e1, e2, e3, e4, e5, e6, e7⟩ := t1 i hin
      obtain ⟨q1, q2, q3, q4⟩ := hmk _ _ e7
      rw [← e4] at q1 q3
      rw [← e5] at q2 q3 q4
      refine br_f (by rw [e1]; decide) ⟨hv, mv_wOver q2 (br_t rfl ?_)⟩
      unfold wX_tidy_63
      refine mv_wDead hi q1 q3 q4 (br_t rfl ⟨hv, ?_⟩)
      rw [nI_clamp (show i < 2 ^ 31 by omega)]
      exact nm_r (mv_updSame e1) (nm_r (nI_1 i) (hW () trivial))
    · exact br_t (t0 i hin hi) (nm_r (nI_1 i) (hW () trivial))
theorem mv_tidyA {post : St2 → Prop} (H : ∀ b12, ∃ fu, wX_tidy_28 post f c f fu 0 a1 a2 a3 a4 a5 a6 a7 a8 a9 a10 a11 b12) :
    wpX_tidy post (c, f, a1, a2, a3, a4, a5, a6, a7, a8, a9, a10, a11, a12) := by
  refine pk_loop (fun m i s => wX_tidy_2 post c f m (nI i) a1 a2 a3 a4 a5 a6 a7 a8 a9 a10 a11 s) (fun _ _ => True) 16 0 a12 (by omega) trivial ?_ ?_
  · intro m s _
    exact pk_le 16 16 (fun _ => H s) (fun z => absurd z (by omega))
  · intro m i s hi _ hW
    exact pk_le 16 i (fun z => absurd z (by omega)) (fun _ => ⟨pk_in i 16 hi, nm_e (nm_r (nI_1 i) (hW _ trivial))⟩)
/-- the vacuum, in the one state where the law asks for it -/
theorem mv_wVac {post : St2 → Prop} (T : mv_tb P mk en n kd ro a1 a2 a3 a4 a5) (hn : n ≤ 96)
    (hmk : ∀ k s, P k s → (mk k s = 1 ∧ mk' k s = 0) ∨ (mk k s = 2 ∧ mk' k s = 2)) (hen : ∀ k s, P k s → (en k s = 0 ∨ en k s = 2 ∨ en k s = 4) ∧ ¬ mk k s = en k s)
    (h67 : ∀ t, t < 4 → a6 t = 0 ∨ a7 t = 2)
    (H : ∀ b4 b7 b12, mv_tb P mk' en n kd ro a1 a2 a3 b4 a5 → (∀ j, j < 4 → a7 j = 2 → b7 j = 0) → post (0, 28, a1, a2, a3, b4, a5, a6, b7, a8, a9, a10, a11, b12)) :
    wpX_vacuum post (2, 28, a1, a2, a3, a4, a5, a6, a7, a8, a9, a10, a11, a12) := by
  unfold wpX_vacuum
  refine mv_tidyA (fun b12 => mv_tidyB T hn (fun k s hk => ?_) (mv_tidyC T hn hmk (fun k s hk => (hen k s hk).1) (fun t ht => ?_) (fun b4 b7 h1 h2 => H b4 b7 b12 h1 h2)))
  · obtain ⟨h1, h2⟩ := hen k s hk
    refine ⟨?_, ?_, h2, ?_⟩
    · rcases hmk k s hk with ⟨e, _⟩ | ⟨e, _⟩
      · rw [e]
        decide
      · rw [e]
        decide
    · rcases h1 with e | e | e
      · rw [e]
        decide
      · rw [e]
        decide
      · rw [e]
        decide
    · rcases h1 with e | e | e
      · exact Or.inl e
      · rw [e]
        exact Or.inr (by decide)
      · rw [e]
        exact Or.inr (by decide)
  · rcases h67 t ht with e | e
    · exact Or.inl e
    · rw [e]
      exact Or.inr (by decide)
end
end
section
/-! the pictures of the law's phases: kinds 0, 1, 2; x, y, h: which rows have a version of each kind; z: which are dropped -/
def mv_m1 (k _ : Nat) : Int32 := if k = 0 then 1 else if k = 1 then 2 else 3
def mv_m0 (k _ : Nat) : Int32 := if k = 0 then 0 else if k = 1 then 2 else 3
def mv_p (k : Nat) (x y h : Bool) : Bool := (decide (k = 0) && x) || ((decide (k = 1) && y) || (decide (k = 2) && h))
def mv_e5 (k : Nat) (y z h : Bool) : Int32 := if k = 2 then 0 else if k = 0 ∧ h = true then 3 else if k = 0 ∧ y = true then 2 else if z = true then 4 else 0
def mv_P (x y h : Nat → Bool) (k s : Nat) : Prop := s < 8 ∧ mv_p k (x s) (y s) (h s) = true
def mv_E (y z h : Nat → Bool) (k s : Nat) : Int32 := mv_e5 k (y s) (z s) (h s)
def mv_F (_ : Nat) : Bool := false
def mv_lt (x : Nat → Bool) (r s : Nat) : Bool := decide (s < r) && x s
def mv_o2 (x : Bool) : Option Nat := if x = true then some 0 else none
def mv_o3 (x y : Bool) : Option Nat := if y = true then some 1 else mv_o2 x
def mv_o4 (x y z bk : Bool) : Option Nat := if ((x || y) && (bk || !z)) = true then mv_o3 x y else none
def mv_o5 (x y z bk ar : Bool) : Option Nat := if ar = true then mv_o2 x else mv_o4 x y z bk
def mv_h (x y z bk ar : Bool) : Bool := !ar && (y || (!bk && ((x || y) && z)))
def mv_s4 (bk : Bool) : Int64 := if bk = true then 4 else 20
def mv_s5 (bk ar : Bool) : Int64 := if ar = true then 0 else mv_s4 bk
theorem mv_p3 {k : Nat} {x y h : Bool} (e : mv_p k x y h = true) : k < 3 := by
  rcases Nat.lt_or_ge k 3 with g | g
  · exact g
  · unfold mv_p at e
    rw [decide_eq_false (show ¬ k = 0 by omega), decide_eq_false (show ¬ k = 1 by omega), decide_eq_false (show ¬ k = 2 by omega), Bool.false_and, Bool.false_and, Bool.false_and] at e
    exact absurd e (by decide)
theorem mv_ok3 {o : Option Nat} {k : Nat} (h : o = none ∨ o = some 0 ∨ o = some 1) (e : o = some k) : k < 3 := by
  rcases h with h | h | h
  · rw [h] at e
    exact absurd e.symm (Option.some_ne_none _)
  · rw [h] at e
    have := Option.some.inj e
    omega
  · rw [h] at e
    have := Option.some.inj e
    omega
theorem mv_a2 : ∀ x : Bool, mv_o2 x = none ∨ mv_o2 x = some 0 ∨ mv_o2 x = some 1 := by decide
theorem mv_a3 : ∀ x y : Bool, mv_o3 x y = none ∨ mv_o3 x y = some 0 ∨ mv_o3 x y = some 1 := by decide
theorem mv_a4 : ∀ x y z bk : Bool, mv_o4 x y z bk = none ∨ mv_o4 x y z bk = some 0 ∨ mv_o4 x y z bk = some 1 := by decide
theorem mv_a5 : ∀ x y z bk ar : Bool, mv_o5 x y z bk ar = none ∨ mv_o5 x y z bk ar = some 0 ∨ mv_o5 x y z bk ar = some 1 := by decide
theorem mv_b2 : ∀ k, k < 3 → ∀ x y h : Bool, mv_o2 x = some k → mv_p k x y h = true := by decide
theorem mv_b3 : ∀ k, k < 3 → ∀ x y h : Bool, mv_o3 x y = some k → mv_p k x y h = true := by decide
theorem mv_b4 : ∀ k, k < 3 → ∀ x y z h bk : Bool, mv_o4 x y z bk = some k → mv_p k x y h = true := by decide +kernel
theorem mv_b5 : ∀ k, k < 3 → ∀ x y z h bk ar : Bool, mv_o5 x y z bk ar = some k → mv_p k x y h = true := by decide +kernel
theorem mv_q2 : ∀ k, k < 3 → ∀ x : Bool, mv_p k x false false = true → (mv_sees 6 (mv_m1 k 0) (mv_e5 k false false false) = true ↔ mv_o2 x = some k) := by decide +kernel
theorem mv_q3 : ∀ k, k < 3 → ∀ x y : Bool, mv_p k x y false = true → (mv_sees 22 (mv_m1 k 0) (mv_e5 k y false false) = true ↔ mv_o3 x y = some k) := by decide +kernel
theorem mv_q4 : ∀ k, k < 3 → ∀ x y z bk : Bool, mv_p k x y false = true → (mv_sees (mv_s4 bk) (mv_m0 k 0) (mv_e5 k y z false) = true ↔ mv_o4 x y z bk = some k) := by decide +kernel
theorem mv_q8 : ∀ k, k < 3 → ∀ x y z : Bool, mv_p k x y false = true → (mv_sees 8 (mv_m0 k 0) (mv_e5 k y z false) = true ↔ mv_o2 x = some k) := by decide +kernel
theorem mv_q5 : ∀ k, k < 3 → ∀ x y z h bk ar : Bool, (h = true → mv_h x y z bk ar = false) → mv_p k x y h = true → (mv_sees (mv_s5 bk ar) (mv_m0 k 0) (mv_e5 k y z h) = true ↔ mv_o5 x y z bk ar = some k) := by decide +kernel
theorem mv_pp0 {k : Nat} {y h : Bool} : mv_p k true y h = true ↔ (mv_p k false y h = true ∨ k = 0) := by
  unfold mv_p
  by_cases e : k = 0
  · simp [e]
  · simp [e]
theorem mv_pp1 {k : Nat} {x h : Bool} : mv_p k x true h = true ↔ (mv_p k x false h = true ∨ k = 1) := by
  unfold mv_p
  by_cases e : k = 1
  · simp [e]
  · simp [e]
theorem mv_pp2 {k : Nat} {x y : Bool} : mv_p k x y true = true ↔ (mv_p k x y false = true ∨ k = 2) := by
  unfold mv_p
  by_cases e : k = 2
  · simp [e]
  · simp [e]
theorem mv_ltN {x : Nat → Bool} {r s : Nat} (h : s ≠ r) : mv_lt x (r + 1) s = mv_lt x r s := by
  unfold mv_lt
  rw [decide_eq_decide.mpr (show s < r + 1 ↔ s < r by omega)]
theorem mv_ltT {x : Nat → Bool} {r : Nat} : mv_lt x (r + 1) r = x r := by
  unfold mv_lt
  rw [decide_eq_true (by omega), Bool.true_and]
theorem mv_ltF {x : Nat → Bool} {r : Nat} : mv_lt x r r = false := by
  unfold mv_lt
  rw [decide_eq_false (by omega), Bool.false_and]
theorem mv_lt8 {x : Nat → Bool} {s : Nat} (h : s < 8) : mv_lt x 8 s = x s := by
  unfold mv_lt
  rw [decide_eq_true h, Bool.true_and]
theorem mv_lt0 {x : Nat → Bool} {s : Nat} : mv_lt x 0 s = false := by
  unfold mv_lt
  rw [decide_eq_false (by omega), Bool.false_and]
theorem mv_ltE {x : Nat → Bool} {r : Nat} (h : x r = false) (s : Nat) : mv_lt x (r + 1) s = mv_lt x r s := by
  by_cases e : s = r
  · rw [e, mv_ltT, mv_ltF, h]
  · exact mv_ltN e
theorem mv_ltI {x : Nat → Bool} {r s : Nat} (h : mv_lt x r s = true) : x s = true := by
  unfold mv_lt at h
  exact (Bool.and_eq_true_iff.mp h).2
theorem mv_tbC {P P' : Nat → Nat → Prop} {mk en en' : Nat → Nat → Int32} {n : Nat} {kd ro : Nat → Nat} {a1 a2 a3 a4 a5 : Nat → Int32} (T : mv_tb P mk en n kd ro a1 a2 a3 a4 a5)
    (hP : ∀ k s, P' k s ↔ P k s) (he : ∀ k s, P k s → en' k s = en k s) : mv_tb P' mk en' n kd ro a1 a2 a3 a4 a5 := by
  obtain ⟨t0, t1, t2, t3⟩ := T
  refine ⟨t0, fun i hi => ?_, t2, fun k r h => t3 k r ((hP k r).mp h)⟩
  obtain ⟨e1, e2, e3, e4, e5, e6, e7⟩ := t1 i hi
  exact ⟨e1, e2, e3, e4, by rw [e5, he _ _ e7], e6, (hP _ _).mpr e7⟩
theorem mv_tbQ {x y z h x' y' z' h' : Nat → Bool} {mk : Nat → Nat → Int32} {n : Nat} {kd ro : Nat → Nat} {a1 a2 a3 a4 a5 : Nat → Int32} (T : mv_tb (mv_P x y h) mk (mv_E y z h) n kd ro a1 a2 a3 a4 a5)
    (hx : ∀ s, s < 8 → x' s = x s) (hy : ∀ s, s < 8 → y' s = y s) (hz : ∀ s, s < 8 → z' s = z s) (hh : ∀ s, s < 8 → h' s = h s) : mv_tb (mv_P x' y' h') mk (mv_E y' z' h') n kd ro a1 a2 a3 a4 a5 := by
  refine mv_tbC T (fun k s => ?_) (fun k s hk => ?_)
  · unfold mv_P
    constructor
    · rintro ⟨g, q⟩
      rw [hx s g, hy s g, hh s g] at q
      exact ⟨g, q⟩
    · rintro ⟨g, q⟩
      refine ⟨g, ?_⟩
      rw [hx s g, hy s g, hh s g]
      exact q
  · unfold mv_E
    rw [hy s hk.1, hz s hk.1, hh s hk.1]
theorem mv_mkw {x y z h : Nat → Bool} {m : Nat → Nat → Int32} {s : Int64} {o : Nat → Option Nat} (hm : ∀ k r, m k r = m k 0)
    (hq : ∀ r, r < 8 → ∀ k, k < 3 → mv_p k (x r) (y r) (h r) = true → (mv_sees s (m k 0) (mv_e5 k (y r) (z r) (h r)) = true ↔ o r = some k))
    (ho : ∀ r, r < 8 → ∀ k, k < 3 → o r = some k → mv_p k (x r) (y r) (h r) = true) (h3 : ∀ r, o r = none ∨ o r = some 0 ∨ o r = some 1) : mv_w (mv_P x y h) m (mv_E y z h) s o := by
  refine ⟨fun r hr k hk => ?_, fun r hr k e => ⟨hr, ho r hr k (mv_ok3 (h3 r) e) e⟩⟩
  rw [hm]
  exact hq r hr k (mv_p3 hk.2) hk.2
theorem mv_heP {P : Nat → Nat → Prop} {en en' : Nat → Nat → Int32} {r : Nat} {w : Option Nat} {m : Int32} (h1 : ∀ k s, s ≠ r → en' k s = en k s) (h2 : ∀ k, P k r → en' k r = if w = some k then m else en k r) :
    ∀ k s, P k s → en' k s = if s = r ∧ w = some k then m else en k s := by
  intro k s hk
  by_cases e : s = r
  · rw [e] at hk
    rw [e, h2 k hk]
    by_cases g : w = some k
    · rw [if_pos g, if_pos ⟨rfl, g⟩]
    · rw [if_neg g, if_neg (fun q => g q.2)]
  · rw [if_neg (fun q => e q.1)]
    exact h1 k s e
theorem mv_r2 : ∀ k, k < 3 → ∀ x : Bool, mv_p k x false false = true → mv_e5 k true false false = if mv_o2 x = some k then 2 else mv_e5 k false false false := by decide
theorem mv_r3 : ∀ k, k < 3 → ∀ x y z : Bool, mv_p k x y false = true → z = true → mv_e5 k y z false = if mv_o3 x y = some k then 4 else mv_e5 k y false false := by decide
theorem mv_r5 : ∀ k, k < 3 → ∀ x y z : Bool, mv_p k x y false = true → mv_e5 k y z true = if mv_o2 x = some k then 3 else mv_e5 k y z false := by decide
end
section
section
variable {c f : Int64} {a1 a2 a3 a4 a5 a6 : Nat → Int32} {a7 : Nat → Int64} {a8 a9 a10 a11 a12 : Nat → Int32}
def mv_bi (b : Bool) : Int32 := if b = true then 1 else 0
theorem mv_biB {b : Bool} {A B : Prop} (hf : b = false → A) (ht : b = true → B) : (mv_bi b = 0 → A) ∧ (¬ mv_bi b = 0 → B) := by
  cases b
  · exact br_t rfl (hf rfl)
  · exact br_f (by decide) (ht rfl)
def mv_w2 (a : Int32) (s : Nat) : Option Nat := mv_o2 (mv_t a s)
def mv_w4 (a b z : Int32) (bk : Bool) (s : Nat) : Option Nat := mv_o4 (mv_t a s) (mv_t b s) (mv_t z s) bk
def mv_w5 (a b z : Int32) (bk ar : Bool) (s : Nat) : Option Nat := mv_o5 (mv_t a s) (mv_t b s) (mv_t z s) bk ar
def mv_nh (a b z : Int32) (bk ar : Bool) (s : Nat) : Bool := !mv_h (mv_t a s) (mv_t b s) (mv_t z s) bk ar
theorem mv_hw5 (a b z : Int32) (bk ar : Bool) (i : Nat) : mv_w (mv_P (mv_t a) (mv_t b) (mv_lt (mv_nh a b z bk ar) i)) mv_m0 (mv_E (mv_t b) (mv_t z) (mv_lt (mv_nh a b z bk ar) i)) (mv_s5 bk ar) (mv_w5 a b z bk ar) := by
  refine mv_mkw (fun _ _ => rfl) (fun r hr k hk hp => mv_q5 k hk _ _ _ _ _ _ (fun q => ?_) hp) (fun r hr k hk e => mv_b5 k hk _ _ _ _ _ _ e) (fun r => mv_a5 _ _ _ _ _)
  have g := mv_ltI q
  unfold mv_nh at g
  exact (Bool.not_eq_true' _).mp g
theorem mv_v5 : ∀ x y z bk ar : Bool, (mv_o5 x y z bk ar).isSome = true → mv_o5 x y z bk ar = some (if (!ar && y) = true then 1 else 0) := by decide
theorem mv_cntB {w : Nat → Option Nat} {x : Int32} {i : Nat} (hi : i < 8) (h : mv_t x i = (w i).isSome) : mv_cnt w i + ((x >>> (nI i &&& 31)) &&& 1) = mv_cnt w (i + 1) := by
  rw [mv_bv x hi, h]
  rcases Option.eq_none_or_eq_some (w i) with e | ⟨k, e⟩
  · rw [← mv_cntN e, e]
    exact Int32.add_zero _
  · rw [← mv_cntS e, e]
    rfl
theorem mv_none {o : Option Nat} (h : o.isSome = false) : o = none := by
  rcases Option.eq_none_or_eq_some o with e | ⟨k, e⟩
  · exact e
  · rw [e] at h
    exact absurd h Bool.noConfusion
theorem mv_L687 {post : Int32 → St0 → Prop} (hpost : post 1 ()) {mc ms kc ks : Nat} {a b z x8 x10 x20 x22 : Int32} (bk ar : Bool) (h8 : ¬ x8 < 0) (h20 : ¬ x20 < 0)
    (h10 : ∀ s, s < 8 → mv_t x10 s = ((mv_t a s || mv_t b s) && mv_t z s)) (h22 : ∀ s, s < 8 → mv_t x22 s = (mv_w5 a b z bk ar s).isSome)
    (h6z : ∀ u, u < 3 → a6 u = 0) (h6 : a6 3 = 1) (h7 : a7 3 = 0) (h83 : a8 3 = nI 0) (h9 : a9 12 = 3) (h11 : ∀ s, s < 8 → mv_t (a11 3) s = mv_h (mv_t a s) (mv_t b s) (mv_t z s) bk ar) :
    ∀ d i, i + d = 8 → ∀ (n : Nat) (kd ro : Nat → Nat) (a1 a2 a3 a4 a5 a10 : Nat → Int32), mv_tb (mv_P (mv_t a) (mv_t b) (mv_lt (mv_nh a b z bk ar) i)) mv_m0 (mv_E (mv_t b) (mv_t z) (mv_lt (mv_nh a b z bk ar) i)) n kd ro a1 a2 a3 a4 a5 → n ≤ 16 + i →
      wL_lawOf_687 post mc ms a b x8 x10 (mv_bi bk) (mv_bi ar) x20 0 x22 kc ks (d + 1) 1 (mv_cnt (mv_w5 a b z bk ar) i) (nI i) (mv_s5 bk ar) f a1 a2 a3 a4 a5 a6 a7 a8 a9 a10 a11 a12 := by
  have ho3 : mv_own a8 a9 3 8 := Or.inl ⟨h83, by show 0 ||| mv_bit (a9 12) = 8; rw [h9]; decide⟩
  have h73 : a7 3 ||| 8 = 8 := by rw [h7]; decide
  have h63 : ¬ a6 3 = 0 := by rw [h6]; decide
  intro d
  induction d with
  | zero =>
    intro i hi n kd ro a1 a2 a3 a4 a5 a10 T hn
    have hi8 : i = 8 := by omega
    subst hi8
    refine pk_le 8 8 (fun _ => ?_) (fun z => absurd z (by omega))
    refine br_f (by decide) (br_f h20 (br_t rfl (mv_wRows T (by omega) (mv_hw5 a b z bk ar 8) ?_)))
    refine br_t rfl (br_f h8 (mv_wCrash (fun b6 => ?_)))
    have hoc : mv_oc a6 4 = 1 := by
      simp only [mv_oc]
      rw [if_pos (h6z 0 (by omega)), if_pos (h6z 1 (by omega)), if_pos (h6z 2 (by omega)), if_neg h63]
      rfl
    exact br_t hoc (mv_wRows T (by omega) (mv_hw5 a b z bk ar 8) (br_t rfl hpost))
  | succ d ih =>
    intro i hi n kd ro a1 a2 a3 a4 a5 a10 T hn
    have hi8 : i < 8 := by omega
    have hu : ∀ u, u < 4 → u ≠ 3 → a6 u = 0 ∨ mv_chg a8 a10 u 0 := fun u hu hne => Or.inl (h6z u (by omega))
    have h841 : ∀ (z0 z1 : Int32) (n' : Nat) (kd' ro' : Nat → Nat) (b1 b2 b3 b4 b5 b10 : Nat → Int32), z1 = z0 → mv_tb (mv_P (mv_t a) (mv_t b) (mv_lt (mv_nh a b z bk ar) (i + 1))) mv_m0 (mv_E (mv_t b) (mv_t z) (mv_lt (mv_nh a b z bk ar) (i + 1))) n' kd' ro' b1 b2 b3 b4 b5 → n' ≤ 16 + (i + 1) →
        wL_lawOf_841 post mc ms (wL_lawOf_687 post mc ms a b x8 x10 (mv_bi bk) (mv_bi ar) x20 0 x22 kc ks (d + 1)) a b x8 x10 (mv_bi bk) (mv_bi ar) x20 0 x22 (mv_cnt (mv_w5 a b z bk ar) (i + 1)) (nI i) z0 z1 kc ks (mv_s5 bk ar) f b1 b2 b3 b4 b5 a6 a7 a8 a9 b10 a11 a12 := by
      intro z0 z1 n' kd' ro' b1 b2 b3 b4 b5 b10 ez T' hn'
      unfold wL_lawOf_841
      exact br_t ez (nm_r (nI_1 i) (ih (i + 1) (by omega) n' kd' ro' b1 b2 b3 b4 b5 b10 T' hn'))
    have h796 : ∀ z0 : Int32, z0 = mv_bi (mv_h (mv_t a i) (mv_t b i) (mv_t z i) bk ar) →
        wL_lawOf_796 post mc ms (wL_lawOf_687 post mc ms a b x8 x10 (mv_bi bk) (mv_bi ar) x20 0 x22 kc ks (d + 1)) a b x8 x10 (mv_bi bk) (mv_bi ar) 1 x20 0 x22 (mv_cnt (mv_w5 a b z bk ar) (i + 1)) (nI i) (mv_vo (mv_w5 a b z bk ar i) i) z0 kc ks (mv_s5 bk ar) f a1 a2 a3 a4 a5 a6 a7 a8 a9 a10 a11 a12 := by
      intro z0 hz
      unfold wL_lawOf_796
      refine br_f (by decide) (mv_wCom T (by omega) hi8 (mv_hw5 a b z bk ar i) (br_t rfl ?_))
      cases hh : mv_h (mv_t a i) (mv_t b i) (mv_t z i) bk ar
      · have hz0 : z0 = 0 := by rw [hz, hh]; rfl
        have hnh : mv_nh a b z bk ar i = true := by unfold mv_nh; rw [hh]; rfl
        refine mv_wPut (t := 3) (P' := mv_P (mv_t a) (mv_t b) (mv_lt (mv_nh a b z bk ar) (i + 1))) (en' := mv_E (mv_t b) (mv_t z) (mv_lt (mv_nh a b z bk ar) (i + 1))) T (by omega) (by omega) hi8 h63 hu (by rw [h11 i hi8, hh]) h83 ho3 h73 (mv_o2 (mv_t a i)) ?_ ?_ (m := 3) h9 ?_ 2 rfl rfl ?_ ?_ ?_ ?_ ?_
        · intro k hk
          have q := mv_q8 k (mv_p3 hk.2) (mv_t a i) (mv_t b i) (mv_t z i)
          have g := hk.2
          rw [mv_ltF] at g
          show mv_sees 8 (mv_m0 k 0) (mv_e5 k (mv_t b i) (mv_t z i) (mv_lt (mv_nh a b z bk ar) i i)) = true ↔ _
          rw [mv_ltF]
          exact q g
        · intro k e
          exact ⟨hi8, mv_b2 k (mv_ok3 (mv_a2 _) e) _ _ _ e⟩
        · intro k e
          have h3 := mv_ok3 (mv_a2 _) e
          have g := mv_b2 k h3 (mv_t a i) false false e
          exact (by decide : ∀ k, k < 3 → ∀ x : Bool, mv_p k x false false = true → ¬ mv_m0 k 0 = 3) k h3 _ g
        · intro g
          have q := g.2
          rw [mv_ltF] at q
          exact (by decide : ∀ x y : Bool, ¬ mv_p 2 x y false = true) _ _ q
        · intro k s
          by_cases e : s = i
          · rw [e]
            unfold mv_P
            rw [mv_ltT, mv_ltF, hnh, mv_pp2]
            constructor
            · rintro ⟨g, q | q⟩
              · exact Or.inl ⟨g, q⟩
              · exact Or.inr ⟨q, rfl⟩
            · rintro (⟨g, q⟩ | ⟨q, _⟩)
              · exact ⟨g, Or.inl q⟩
              · exact ⟨hi8, Or.inr q⟩
          · unfold mv_P
            rw [mv_ltN e]
            constructor
            · exact fun g => Or.inl g
            · rintro (g | ⟨_, q⟩)
              · exact g
              · exact absurd q e
        · refine mv_heP (fun k s e => ?_) (fun k hk => ?_)
          · unfold mv_E
            rw [mv_ltN e]
          · have g := hk.2
            rw [mv_ltF] at g
            unfold mv_E
            rw [mv_ltT, mv_ltF, hnh]
            exact mv_r5 k (mv_p3 g) _ _ _ g
        · rfl
        · intro kd' ro' b1 b2 b3 b4 b5 T'
          refine br_t hz0 (h841 _ _ _ kd' ro' _ _ _ _ _ _ ?_ T' (by omega))
          rw [mv_bv a hi8]
          cases ea : mv_t a i
          · rfl
          · rfl
      · have hz0 : ¬ z0 = 0 := by rw [hz, hh]; decide
        have hnh : mv_nh a b z bk ar i = false := by unfold mv_nh; rw [hh]; rfl
        refine mv_wPutS (t := 3) (by omega) hi8 h63 hu (by rw [h11 i hi8, hh]) (br_f hz0 (h841 _ _ n kd ro _ _ _ _ _ _ rfl (mv_tbQ T (fun _ _ => rfl) (fun _ _ => rfl) (fun _ _ => rfl) (fun s _ => mv_ltE hnh s)) (by omega)))
    have h795 : mv_h (mv_t a i) (mv_t b i) (mv_t z i) bk ar = false → wL_lawOf_795 post mc ms (wL_lawOf_687 post mc ms a b x8 x10 (mv_bi bk) (mv_bi ar) x20 0 x22 kc ks (d + 1)) a b x8 x10 (mv_bi bk) (mv_bi ar) 1 x20 0 x22 (mv_cnt (mv_w5 a b z bk ar) (i + 1)) (nI i) (mv_vo (mv_w5 a b z bk ar i) i) kc ks (mv_s5 bk ar) f a1 a2 a3 a4 a5 a6 a7 a8 a9 a10 a11 a12 := by
      intro hh
      unfold wL_lawOf_795
      exact h796 0 (by rw [hh]; rfl)
    have h781 : ar = false → ∀ z0 : Int32, mv_t z0 i = (!bk && ((mv_t a i || mv_t b i) && mv_t z i)) → wL_lawOf_781 post mc ms (wL_lawOf_687 post mc ms a b x8 x10 (mv_bi bk) (mv_bi ar) x20 0 x22 kc ks (d + 1)) a b x8 x10 (mv_bi bk) (mv_bi ar) 1 x20 0 x22 (mv_cnt (mv_w5 a b z bk ar) (i + 1)) (nI i) (mv_vo (mv_w5 a b z bk ar i) i) z0 b kc ks (mv_s5 bk ar) f a1 a2 a3 a4 a5 a6 a7 a8 a9 a10 a11 a12 := by
      intro har z0 hz
      have hb : mv_t (b ||| z0) i = mv_h (mv_t a i) (mv_t b i) (mv_t z i) bk ar := by
        rw [mv_or, hz, har]
        rfl
      unfold wL_lawOf_781
      exact mv_br hi8 (fun e => h796 1 (by rw [← hb, e]; rfl)) (fun e => h795 (by rw [← hb, e]))
    have h761 : wL_lawOf_761 post mc ms (wL_lawOf_687 post mc ms a b x8 x10 (mv_bi bk) (mv_bi ar) x20 0 x22 kc ks (d + 1)) a b x8 x10 (mv_bi bk) (mv_bi ar) 1 x20 0 x22 (mv_cnt (mv_w5 a b z bk ar) (i + 1)) (nI i) (mv_vo (mv_w5 a b z bk ar i) i) kc ks (mv_s5 bk ar) f a1 a2 a3 a4 a5 a6 a7 a8 a9 a10 a11 a12 := by
      unfold wL_lawOf_761
      refine mv_biB (fun har => mv_biB (fun hbk => h781 har x10 ?_) (fun hbk => h781 har 0 ?_)) (fun har => h795 ?_)
      · rw [h10 i hi8, hbk]
        rfl
      · rw [mv_0, hbk]
        rfl
      · rw [har]
        rfl
    have h722 : ∀ z0 : Int32, z0 = mv_bi (mv_t b i) → wL_lawOf_722 post mc ms (wL_lawOf_687 post mc ms a b x8 x10 (mv_bi bk) (mv_bi ar) x20 0 x22 kc ks (d + 1)) a b x8 x10 (mv_bi bk) (mv_bi ar) 1 x20 0 x22 (mv_cnt (mv_w5 a b z bk ar) (i + 1)) (nI i) z0 kc ks (mv_s5 bk ar) f a1 a2 a3 a4 a5 a6 a7 a8 a9 a10 a11 a12 := by
      intro z0 hz
      unfold wL_lawOf_722
      refine mv_br0 hi8 (fun e => ?_) (fun e => ?_)
      · rw [h22 i hi8] at e
        have hv : mv_w5 a b z bk ar i = some (if (!ar && mv_t b i) = true then 1 else 0) := mv_v5 _ _ _ _ _ e
        refine mv_biB (fun har => ?_) (fun har => ?_)
        · rw [hz]
          refine mv_biB (fun hb => ?_) (fun hb => ?_)
          · have q : mv_vo (mv_w5 a b z bk ar i) i = 10 + nI i := by rw [hv, har, hb]; rfl
            rw [q] at h761
            unfold wL_lawOf_756
            exact h761
          · have q : mv_vo (mv_w5 a b z bk ar i) i = 100 + nI i := by rw [hv, har, hb]; rfl
            rw [q] at h761
            exact h761
        · have q : mv_vo (mv_w5 a b z bk ar i) i = 10 + nI i := by rw [hv, har]; rfl
          rw [q] at h761
          unfold wL_lawOf_756
          exact h761
      · rw [h22 i hi8] at e
        have q : mv_vo (mv_w5 a b z bk ar i) i = 0 := by rw [mv_none e]; rfl
        rw [q] at h761
        exact h761
    refine pk_le 8 i (fun z => absurd z (by omega)) (fun _ => nm_r (mv_cntB hi8 (h22 i hi8)) ?_)
    exact mv_br hi8 (fun e => h722 1 (by rw [e]; rfl)) (fun e => h722 0 (by rw [e]; rfl))
end
end
section
section
variable {f : Int64} {a1 a2 a3 a4 a5 a6 : Nat → Int32} {a7 : Nat → Int64} {a8 a9 a10 a11 a12 : Nat → Int32}
variable {post : Int32 → St0 → Prop} {mc ms kc ks : Nat} {a b z x8 x10 x15 : Int32} {bk ar : Bool} {n : Nat} {kd ro : Nat → Nat}
theorem mv_L657 (hpost : post 1 ()) {x20 : Int32} (h8 : ¬ x8 < 0) (h20 : ¬ x20 < 0)
    (h10 : ∀ s, s < 8 → mv_t x10 s = ((mv_t a s || mv_t b s) && mv_t z s)) (h15 : ∀ s, s < 8 → mv_t x15 s = (mv_w4 a b z bk s).isSome)
    (h6z : ∀ u, u < 3 → a6 u = 0) (h6 : a6 3 = 1) (h7 : a7 3 = 0) (h83 : a8 3 = nI 0) (h9 : a9 12 = 3) (h11 : ∀ s, s < 8 → mv_t (a11 3) s = mv_h (mv_t a s) (mv_t b s) (mv_t z s) bk ar)
    (h10t : a10 12 = 0) (T : mv_tb (mv_P (mv_t a) (mv_t b) mv_F) mv_m0 (mv_E (mv_t b) (mv_t z) mv_F) n kd ro a1 a2 a3 a4 a5) (hn : n ≤ 16) :
    wL_lawOf_657 post mc ms a b x8 x10 (mv_bi bk) (mv_bi ar) x15 1 x20 kc ks (mv_s5 bk ar) f a1 a2 a3 a4 a5 a6 a7 a8 a9 a10 a11 a12 := by
  unfold wL_lawOf_657
  have T0 : mv_tb (mv_P (mv_t a) (mv_t b) (mv_lt (mv_nh a b z bk ar) 0)) mv_m0 (mv_E (mv_t b) (mv_t z) (mv_lt (mv_nh a b z bk ar) 0)) n kd ro a1 a2 a3 a4 a5 :=
    mv_tbQ T (fun _ _ => rfl) (fun _ _ => rfl) (fun _ _ => rfl) (fun s _ => mv_lt0)
  refine mv_wChanged (t := 3) (x := 0) (by omega) (by rw [h6]; decide) (Or.inl ⟨h83, ?_⟩) (mv_biB (fun har => ⟨9, ?_⟩) (fun har => ⟨9, ?_⟩))
  · show 0 ||| a10 12 = 0
    rw [h10t]
    decide
  · refine mv_L687 hpost bk ar h8 h20 h10 (fun s hs => ?_) h6z h6 h7 h83 h9 h11 8 0 rfl n kd ro a1 a2 a3 a4 a5 a10 T0 (by omega)
    rw [h15 s hs]
    unfold mv_w5 mv_w4
    rw [har]
    rfl
  · refine mv_L687 hpost bk ar h8 h20 h10 (fun s hs => ?_) h6z h6 h7 h83 h9 h11 8 0 rfl n kd ro a1 a2 a3 a4 a5 a10 T0 (by omega)
    unfold mv_w5
    rw [har]
    cases mv_t a s
    · rfl
    · rfl
theorem mv_s45 : ∀ bk : Bool, 0 ||| mv_s4 bk = mv_s5 bk false := by decide
theorem mv_L635 (hpost : post 1 ()) (h8 : ¬ x8 < 0)
    (h10 : ∀ s, s < 8 → mv_t x10 s = ((mv_t a s || mv_t b s) && mv_t z s)) (h15 : ∀ s, s < 8 → mv_t x15 s = (mv_w4 a b z bk s).isSome)
    (h60 : a6 0 = 1) (h61 : a6 1 = 0) (h62 : a6 2 = 0) (h63 : a6 3 = 1) (h73 : a7 3 = 0) (h83 : a8 3 = nI 0) (h9 : a9 12 = 3) (h11 : a11 3 = 0)
    (ho : mv_own a8 a9 0 (mv_s4 bk)) (hc : mv_chg a8 a10 0 (if bk = true then b else b ||| x10)) (h10t : a10 12 = 0)
    (T : mv_tb (mv_P (mv_t a) (mv_t b) mv_F) mv_m0 (mv_E (mv_t b) (mv_t z) mv_F) n kd ro a1 a2 a3 a4 a5) (hn : n ≤ 16) :
    wL_lawOf_635 post mc ms a b x8 x10 (mv_bi bk) (mv_bi ar) x15 1 kc ks 0 f a1 a2 a3 a4 a5 a6 a7 a8 a9 a10 a11 a12 := by
  have h6z : ∀ u, u < 3 → upd a6 0 0 u = 0 := by
    intro u hu
    by_cases e0 : u = 0
    · rw [e0, pk_us]
    · rw [pk_un e0]
      by_cases e1 : u = 1
      · rw [e1, h61]
      · rw [show u = 2 by omega, h62]
  have h6t : upd a6 0 0 3 = 1 := by
    rw [pk_un (by decide)]
    exact h63
  unfold wL_lawOf_635
  refine mv_biB (fun har => ?_) (fun har => ?_)
  · refine mv_wCommit (t := 0) (by omega) (by rw [h60]; decide) hc ho (fun j b11 hj hb => ?_)
    have e : (0 ||| mv_s4 bk : Int64) = mv_s5 bk ar := by
      rw [har]
      exact mv_s45 bk
    rw [e]
    refine mv_L657 hpost h8 (nI_pos (by omega)) h10 h15 h6z h6t h73 h83 h9 (fun s hs => ?_) h10t T hn
    rw [hb 3 (by omega), h11, mv_zor, har]
    cases bk
    · show mv_t (b ||| x10) s = _
      rw [mv_or, h10 s hs]
      rfl
    · show mv_t b s = _
      cases mv_t a s <;> cases mv_t b s <;> cases mv_t z s <;> rfl
  · refine mv_wAbort (t := 0) (by omega) (by rw [h60]; decide) hc ho (fun j hj => ?_)
    have e : (0 : Int64) = mv_s5 bk ar := by
      rw [har]
      rfl
    have q : wL_lawOf_657 post mc ms a b x8 x10 (mv_bi bk) (mv_bi ar) x15 1 (nI j) kc ks (mv_s5 bk ar) (f &&& (mv_s4 bk ^^^ (-1))) a1 a2 a3 a4 a5 (upd a6 0 0) a7 a8 a9 a10 a11 a12 := by
      refine mv_L657 hpost h8 (nI_pos (by omega)) h10 h15 h6z h6t h73 h83 h9 (fun s hs => ?_) h10t T hn
      rw [h11, mv_0, har]
      rfl
    rw [← e] at q
    exact q
theorem mv_v4 : ∀ x y z bk : Bool, (mv_o4 x y z bk).isSome = true → mv_o4 x y z bk = some (if y = true then 1 else 0) := by decide
theorem mv_hw4 (a b z : Int32) (bk : Bool) : mv_w (mv_P (mv_t a) (mv_t b) mv_F) mv_m0 (mv_E (mv_t b) (mv_t z) mv_F) (mv_s4 bk) (mv_w4 a b z bk) :=
  mv_mkw (fun _ _ => rfl) (fun r hr k hk hp => mv_q4 k hk _ _ _ _ hp) (fun r hr k hk e => mv_b4 k hk _ _ _ _ _ e) (fun r => mv_a4 _ _ _ _)
theorem mv_hw8 (a b z : Int32) : mv_w (mv_P (mv_t a) (mv_t b) mv_F) mv_m0 (mv_E (mv_t b) (mv_t z) mv_F) 8 (mv_w2 a) :=
  mv_mkw (fun _ _ => rfl) (fun r hr k hk hp => mv_q8 k hk _ _ _ hp) (fun r hr k hk e => mv_b2 k hk _ _ _ e) (fun r => mv_a2 _)
theorem mv_L389 (hpost : post 1 ()) {x1 x3 : Int32} (h8 : ¬ x8 < 0)
    (h10 : ∀ s, s < 8 → mv_t x10 s = ((mv_t a s || mv_t b s) && mv_t z s)) (h15 : ∀ s, s < 8 → mv_t x15 s = (mv_w4 a b z bk s).isSome)
    (h60 : a6 0 = 1) (h61 : a6 1 = 0) (h62 : a6 2 = 0) (h63 : a6 3 = 1) (h70 : a7 0 = 0) (h73 : a7 3 = 0) (h83 : a8 3 = nI 0) (h9 : a9 12 = 3) (h11 : a11 3 = 0)
    (ho : mv_own a8 a9 0 (mv_s4 bk)) (hc : mv_chg a8 a10 0 (if bk = true then b else b ||| x10)) (h10t : a10 12 = 0)
    (T : mv_tb (mv_P (mv_t a) (mv_t b) mv_F) mv_m0 (mv_E (mv_t b) (mv_t z) mv_F) n kd ro a1 a2 a3 a4 a5) (hn : n ≤ 16)
    {fr : Nat} (hfr : fr < 8) (h3 : x3 &&& 7 = nI fr) :
    ∀ d i, i + d = 8 → wL_lawOf_389 post mc ms x1 x3 a b x8 x10 (mv_bi bk) (mv_bi ar) x15 kc ks 0 f a1 a2 a3 a4 a5 a6 a7 a8 a9 a10 a11 a12 (d + 1) 1 ((mv_fs (mv_hit (mv_w4 a b z bk) fr (x1 &&& 127)) i)) (mv_sum (mv_w4 a b z bk) i) (mv_cnt (mv_w4 a b z bk) i) (nI i) := by
  have h60' : ¬ a6 0 = 0 := by rw [h60]; decide
  have h63' : ¬ a6 3 = 0 := by rw [h63]; decide
  have ho3 : mv_own a8 a9 3 8 := Or.inl ⟨h83, by show 0 ||| mv_bit (a9 12) = 8; rw [h9]; decide⟩
  have h7s : a7 0 ||| mv_s4 bk = mv_s4 bk := by rw [h70]; cases bk <;> decide
  have h7t : a7 3 ||| 8 = 8 := by rw [h73]; decide
  have hw4 := mv_hw4 a b z bk
  have hw8 := mv_hw8 a b z
  intro d
  induction d with
  | zero =>
    intro i hi
    have hi8 : i = 8 := by omega
    subst hi8
    refine pk_le 8 8 (fun _ => br_f (by decide) ?_) (fun z => absurd z (by omega))
    rw [h3]
    refine mv_wFind (t := 0) T (by omega) (by omega) h60' ho h7s hw4 hfr (br_t rfl ?_)
    refine mv_wSum (t := 0) T (by omega) (by omega) h60' ho h7s hw4 (br_t rfl ?_)
    refine mv_wCnt (t := 0) T (by omega) (by omega) h60' ho h7s hw4 (br_t rfl ?_)
    exact mv_L635 hpost h8 h10 h15 h60 h61 h62 h63 h73 h83 h9 h11 ho hc h10t T hn
  | succ d ih =>
    intro i hi
    have hi8 : i < 8 := by omega
    have h553 : ∀ z0 : Int32, z0 = (mv_fs (mv_hit (mv_w4 a b z bk) fr (x1 &&& 127)) (i + 1)) → wL_lawOf_553 post mc ms (wL_lawOf_389 post mc ms x1 x3 a b x8 x10 (mv_bi bk) (mv_bi ar) x15 kc ks 0 f a1 a2 a3 a4 a5 a6 a7 a8 a9 a10 a11 a12 (d + 1)) x1 x3 a b x8 x10 (mv_bi bk) (mv_bi ar) x15 1 (mv_sum (mv_w4 a b z bk) i) (mv_cnt (mv_w4 a b z bk) i) (nI i) (mv_bi (mv_w4 a b z bk i).isSome) (mv_vo (mv_w4 a b z bk i) i) z0 kc ks 0 f a1 a2 a3 a4 a5 a6 a7 a8 a9 a10 a11 a12 := by
      intro z0 hz
      unfold wL_lawOf_553
      have q := ih (i + 1) (by omega)
      rw [← hz] at q
      refine nm_r (e' := mv_sum (mv_w4 a b z bk) (i + 1)) rfl (mv_biB (fun e => nm_r (nI_1 i) ?_) (fun e => nm_r (e' := mv_cnt (mv_w4 a b z bk) (i + 1)) ?_ (nm_r (nI_1 i) q)))
      · rw [← mv_cntN (mv_none e)] at q
        exact q
      · rcases Option.eq_none_or_eq_some (mv_w4 a b z bk i) with g | ⟨k, g⟩
        · rw [g] at e
          exact absurd e (by decide)
        · exact mv_cntS g
    have h551 : ¬ (mv_hit (mv_w4 a b z bk) fr (x1 &&& 127) i = true ∧ (mv_fs (mv_hit (mv_w4 a b z bk) fr (x1 &&& 127)) i) < 0) → wL_lawOf_551 post mc ms (wL_lawOf_389 post mc ms x1 x3 a b x8 x10 (mv_bi bk) (mv_bi ar) x15 kc ks 0 f a1 a2 a3 a4 a5 a6 a7 a8 a9 a10 a11 a12 (d + 1)) x1 x3 a b x8 x10 (mv_bi bk) (mv_bi ar) x15 1 ((mv_fs (mv_hit (mv_w4 a b z bk) fr (x1 &&& 127)) i)) (mv_sum (mv_w4 a b z bk) i) (mv_cnt (mv_w4 a b z bk) i) (nI i) (mv_bi (mv_w4 a b z bk i).isSome) (mv_vo (mv_w4 a b z bk i) i) kc ks 0 f a1 a2 a3 a4 a5 a6 a7 a8 a9 a10 a11 a12 := by
      intro hh
      unfold wL_lawOf_551
      exact h553 _ (if_neg hh).symm
    have h516 : wL_lawOf_516 post mc ms (wL_lawOf_389 post mc ms x1 x3 a b x8 x10 (mv_bi bk) (mv_bi ar) x15 kc ks 0 f a1 a2 a3 a4 a5 a6 a7 a8 a9 a10 a11 a12 (d + 1)) x1 x3 a b x8 x10 (mv_bi bk) (mv_bi ar) x15 ((mv_fs (mv_hit (mv_w4 a b z bk) fr (x1 &&& 127)) i)) (mv_sum (mv_w4 a b z bk) i) (mv_cnt (mv_w4 a b z bk) i) (nI i) (mv_bi (mv_w4 a b z bk i).isSome) (mv_vo (mv_w4 a b z bk i) i) 1 kc ks 0 f a1 a2 a3 a4 a5 a6 a7 a8 a9 a10 a11 a12 := by
      unfold wL_lawOf_516
      refine mv_biB (fun e => h551 (fun q => ?_)) (fun e => br_c (fun g => h551 (fun q => ?_)) (fun g => br_c (fun g2 => h551 (fun q => ?_)) (fun g2 => br_c (fun g3 => h551 (fun q => ?_)) (fun g3 => h553 _ ?_))))
      · have u := q.1
        unfold mv_hit at u
        rw [e] at u
        simp at u
      · exact (Int32.not_lt.mpr g) q.2
      · have u := q.1
        unfold mv_hit at u
        rw [h3] at g2
        rw [decide_eq_false (show ¬ fr ≤ i from by have := (nI_ltI (by omega) (by omega)).mp g2; omega)] at u
        simp at u
      · have u := q.1
        unfold mv_hit at u
        rw [decide_eq_true g3] at u
        simp at u
      · refine (if_pos ⟨?_, Int32.not_le.mp g⟩).symm
        unfold mv_hit
        rw [h3] at g2
        rw [e, decide_eq_false g3, decide_eq_true (show fr ≤ i from by rcases Nat.lt_or_ge i fr with u | u; exact absurd ((nI_ltI (by omega) (by omega)).mpr u) g2; exact u)]
        rfl
    have h508 : ∀ z0 : Int32, z0 = mv_vo (mv_w2 a i) i → wL_lawOf_508 post mc ms (wL_lawOf_389 post mc ms x1 x3 a b x8 x10 (mv_bi bk) (mv_bi ar) x15 kc ks 0 f a1 a2 a3 a4 a5 a6 a7 a8 a9 a10 a11 a12 (d + 1)) x1 x3 a b x8 x10 (mv_bi bk) (mv_bi ar) x15 ((mv_fs (mv_hit (mv_w4 a b z bk) fr (x1 &&& 127)) i)) (mv_sum (mv_w4 a b z bk) i) (mv_cnt (mv_w4 a b z bk) i) (nI i) (mv_bi (mv_w4 a b z bk i).isSome) (mv_vo (mv_w4 a b z bk i) i) z0 (mv_vo (mv_w2 a i) i) kc ks 0 f a1 a2 a3 a4 a5 a6 a7 a8 a9 a10 a11 a12 := by
      intro z0 hz
      unfold wL_lawOf_508
      exact br_t hz.symm h516
    have h447 : wL_lawOf_447 post mc ms (wL_lawOf_389 post mc ms x1 x3 a b x8 x10 (mv_bi bk) (mv_bi ar) x15 kc ks 0 f a1 a2 a3 a4 a5 a6 a7 a8 a9 a10 a11 a12 (d + 1)) x1 x3 a b x8 x10 (mv_bi bk) (mv_bi ar) x15 1 ((mv_fs (mv_hit (mv_w4 a b z bk) fr (x1 &&& 127)) i)) (mv_sum (mv_w4 a b z bk) i) (mv_cnt (mv_w4 a b z bk) i) (nI i) (mv_bi (mv_w4 a b z bk i).isSome) (mv_vo (mv_w4 a b z bk i) i) kc ks 0 f a1 a2 a3 a4 a5 a6 a7 a8 a9 a10 a11 a12 := by
      unfold wL_lawOf_447
      refine br_f (by decide) (mv_wHas (t := 0) T (by omega) (by omega) hi8 h60' ho h7s hw4 (br_t rfl ?_))
      refine mv_wGet (t := 0) T (by omega) (by omega) hi8 h60' ho h7s hw4 (br_t rfl ?_)
      refine mv_wGet (t := 3) T (by omega) (by omega) hi8 h63' ho3 h7t hw8 (mv_br hi8 (fun e => h508 _ ?_) (fun e => h508 _ ?_))
      · unfold mv_w2
        rw [e]
        rfl
      · unfold mv_w2
        rw [e]
        rfl
    have h412 : ∀ z0 : Int32, z0 = (mv_bi (mv_w4 a b z bk i).isSome) → wL_lawOf_412 post mc ms (wL_lawOf_389 post mc ms x1 x3 a b x8 x10 (mv_bi bk) (mv_bi ar) x15 kc ks 0 f a1 a2 a3 a4 a5 a6 a7 a8 a9 a10 a11 a12 (d + 1)) x1 x3 a b x8 x10 (mv_bi bk) (mv_bi ar) x15 1 ((mv_fs (mv_hit (mv_w4 a b z bk) fr (x1 &&& 127)) i)) (mv_sum (mv_w4 a b z bk) i) (mv_cnt (mv_w4 a b z bk) i) (nI i) z0 kc ks 0 f a1 a2 a3 a4 a5 a6 a7 a8 a9 a10 a11 a12 := by
      intro z0 hz
      unfold wL_lawOf_412
      rw [hz]
      refine mv_biB (fun e => ?_) (fun e => mv_br hi8 (fun hb => ?_) (fun hb => ?_))
      · have q : mv_vo (mv_w4 a b z bk i) i = 0 := by rw [mv_none e]; rfl
        rw [q] at h447
        exact h447
      · have q : mv_vo (mv_w4 a b z bk i) i = 100 + nI i := by
          have g : mv_w4 a b z bk i = _ := mv_v4 _ _ _ _ e
          rw [g, hb]
          rfl
        rw [q] at h447
        exact h447
      · have q : mv_vo (mv_w4 a b z bk i) i = 10 + nI i := by
          have g : mv_w4 a b z bk i = _ := mv_v4 _ _ _ _ e
          rw [g, hb]
          rfl
        rw [q] at h447
        exact h447
    refine pk_le 8 i (fun z => absurd z (by omega)) (fun _ => ?_)
    exact mv_br hi8 (fun e => h412 1 (by rw [← h15 i hi8, e]; rfl)) (fun e => h412 0 (by rw [← h15 i hi8, e]; rfl))
end
end
section
section
variable {f : Int64} {a1 a2 a3 a4 a5 a6 : Nat → Int32} {a7 : Nat → Int64} {a8 a9 a10 a11 a12 : Nat → Int32}
variable {post : Int32 → St0 → Prop} {mc ms kc ks : Nat} {a b z x1 x2 x3 x8 x10 : Int32} {n : Nat} {kd ro : Nat → Nat}
theorem mv_i4 : ∀ x y z bk : Bool, (mv_o4 x y z bk).isSome = ((x || y) && (bk || !z)) := by decide
theorem mv_L374 (hpost : post 1 ()) {x15 : Int32} {bk ar : Bool} (h8 : ¬ x8 < 0)
    (h10 : ∀ s, s < 8 → mv_t x10 s = ((mv_t a s || mv_t b s) && mv_t z s)) (h15 : ∀ s, s < 8 → mv_t x15 s = (mv_w4 a b z bk s).isSome)
    (h60 : a6 0 = 1) (h61 : a6 1 = 0) (h62 : a6 2 = 0) (h63 : a6 3 = 1) (h70 : a7 0 = 0) (h73 : a7 3 = 0) (h83 : a8 3 = nI 0) (h9 : a9 12 = 3) (h11 : a11 3 = 0)
    (ho : mv_own a8 a9 0 (mv_s4 bk)) (hc : mv_chg a8 a10 0 (if bk = true then b else b ||| x10)) (h10t : a10 12 = 0)
    (T : mv_tb (mv_P (mv_t a) (mv_t b) mv_F) mv_m0 (mv_E (mv_t b) (mv_t z) mv_F) n kd ro a1 a2 a3 a4 a5) (hn : n ≤ 16) :
    wL_lawOf_374 post mc ms x1 x3 a b x8 x10 (mv_bi bk) (mv_bi ar) x15 1 kc ks 0 f a1 a2 a3 a4 a5 a6 a7 a8 a9 a10 a11 a12 := by
  obtain ⟨fr, hfr, h3⟩ := pk_andE x3 (m := 7) 3 (by decide)
  unfold wL_lawOf_374
  exact ⟨9, mv_L389 hpost h8 h10 h15 h60 h61 h62 h63 h70 h73 h83 h9 h11 ho hc h10t T hn hfr h3 8 0 rfl⟩
theorem mv_L261 (hpost : post 1 ()) {bk : Bool} (h8 : ¬ x8 < 0) (hx : x10 = (a ||| b) &&& z)
    (h60 : a6 0 = 1) (h61 : a6 1 = 0) (h62 : a6 2 = 0) (h63 : a6 3 = 1) (h70 : a7 0 = 0) (h73 : a7 3 = 0) (h83 : a8 3 = nI 0) (h9 : a9 12 = 3) (h11 : a11 3 = 0)
    (ho : mv_own a8 a9 0 (mv_s4 bk)) (hc : mv_chg a8 a10 0 (if bk = true then b else b ||| x10)) (h10t : a10 12 = 0)
    (T : mv_tb (mv_P (mv_t a) (mv_t b) mv_F) mv_m0 (mv_E (mv_t b) (mv_t z) mv_F) n kd ro a1 a2 a3 a4 a5) (hn : n ≤ 16) :
    wL_lawOf_261 post mc ms x1 x2 x3 a b z x8 1 x10 (b ||| x10) (mv_bi bk) (mv_bi (!bk)) kc ks 0 f a1 a2 a3 a4 a5 a6 a7 a8 a9 a10 a11 a12 := by
  have h10 : ∀ s, s < 8 → mv_t x10 s = ((mv_t a s || mv_t b s) && mv_t z s) := by
    intro s _
    rw [hx, mv_and, mv_or]
  have h60' : ¬ a6 0 = 0 := by rw [h60]; decide
  have h332 : ∀ (ar : Bool) (x15 z0 : Int32), (∀ s, s < 8 → mv_t x15 s = (mv_w4 a b z bk s).isSome) → mv_bi (!bk) = z0 →
      wL_lawOf_332 post mc ms x1 x3 a b x8 x10 (b ||| x10) (mv_bi bk) (mv_bi ar) x15 z0 (mv_bi (!bk)) kc ks 0 f a1 a2 a3 a4 a5 a6 a7 a8 a9 a10 a11 a12 := by
    intro ar x15 z0 h15 ez
    unfold wL_lawOf_332
    refine br_t ez (br_t rfl (mv_wChanged (t := 0) (by omega) h60' hc (mv_biB (fun hb => ?_) (fun hb => ?_))))
    · unfold wL_lawOf_366
      refine br_t ?_ (mv_L374 hpost h8 h10 h15 h60 h61 h62 h63 h70 h73 h83 h9 h11 ho hc h10t T hn)
      rw [hb]
      rfl
    · unfold wL_lawOf_366
      refine br_t ?_ (mv_L374 hpost h8 h10 h15 h60 h61 h62 h63 h70 h73 h83 h9 h11 ho hc h10t T hn)
      rw [hb]
      rfl
  have h299 : ∀ (ar : Bool) (x15 : Int32), (∀ s, s < 8 → mv_t x15 s = (mv_w4 a b z bk s).isSome) → wL_lawOf_299 post mc ms x1 x3 a b z x8 1 x10 (b ||| x10) (mv_bi bk) (mv_bi (!bk)) (mv_bi ar) x15 kc ks 0 f a1 a2 a3 a4 a5 a6 a7 a8 a9 a10 a11 a12 := by
    intro ar x15 h15
    unfold wL_lawOf_299
    refine br_t hx (br_t rfl (mv_biB (fun hb => h332 ar x15 1 h15 ?_) (fun hb => h332 ar x15 0 h15 ?_)))
    · rw [hb]
      rfl
    · rw [hb]
      rfl
  have h274 : ∀ ar : Bool, wL_lawOf_274 post mc ms x1 x3 a b z x8 1 x10 (b ||| x10) (mv_bi bk) (mv_bi (!bk)) (mv_bi ar) kc ks 0 f a1 a2 a3 a4 a5 a6 a7 a8 a9 a10 a11 a12 := by
    intro ar
    unfold wL_lawOf_274
    refine mv_biB (fun hb => h299 ar _ (fun s hs => ?_)) (fun hb => h299 ar _ (fun s hs => ?_))
    · unfold mv_w4
      rw [mv_i4, mv_and, mv_or, mv_xor, mv_neg1 s (by omega), hb]
      cases mv_t a s <;> cases mv_t b s <;> cases mv_t z s <;> rfl
    · unfold mv_w4
      rw [mv_i4, mv_or, hb]
      cases mv_t a s <;> cases mv_t b s <;> cases mv_t z s <;> rfl
  unfold wL_lawOf_261
  exact br_c (fun _ => h274 false) (fun _ => h274 true)
theorem mv_L244 (hpost : post 1 ()) {bk : Bool} (h8 : ¬ x8 < 0) (hx : x10 = (a ||| b) &&& z)
    (h60 : a6 0 = 1) (h61 : a6 1 = 0) (h62 : a6 2 = 0) (h63 : a6 3 = 1) (h70 : a7 0 = 0) (h73 : a7 3 = 0) (h80 : a8 0 = nI 1) (h83 : a8 3 = nI 0)
    (h90 : a9 0 = 2) (h91 : a9 1 = 4) (h9 : a9 12 = 3) (h11 : a11 3 = 0) (h100 : a10 0 = b) (h101 : a10 1 = x10) (h10t : a10 12 = 0)
    (T : mv_tb (mv_P (mv_t a) (mv_t b) mv_F) mv_m0 (mv_E (mv_t b) (mv_t z) mv_F) n kd ro a1 a2 a3 a4 a5) (hn : n ≤ 16) :
    wL_lawOf_244 post mc ms x1 x2 x3 a b z x8 1 x10 (b ||| x10) (mv_bi bk) kc ks 0 f a1 a2 a3 a4 a5 a6 a7 a8 a9 a10 a11 a12 := by
  have h60' : ¬ a6 0 = 0 := by rw [h60]; decide
  unfold wL_lawOf_244
  cases bk
  · refine br_t rfl ?_
    refine mv_L261 (bk := false) hpost h8 hx h60 h61 h62 h63 h70 h73 h83 h9 h11 (Or.inr ⟨h80, ?_⟩) (Or.inr ⟨h80, ?_⟩) h10t T hn
    · show (0 ||| mv_bit (a9 0)) ||| mv_bit (a9 1) = _
      rw [h90, h91]
      decide
    · show (0 ||| a10 0) ||| a10 1 = b ||| x10
      rw [h100, h101, mv_zor]
  · refine br_f (by decide) (mv_wBack (t := 0) (m := 4) (by omega) h60' h80 h91 ?_)
    refine mv_L261 (bk := true) hpost h8 hx h60 h61 h62 h63 h70 h73 ?_ h9 h11 (Or.inl ⟨pk_us, ?_⟩) (Or.inl ⟨pk_us, ?_⟩) h10t T hn
    · rw [pk_un (by decide)]
      exact h83
    · show 0 ||| mv_bit (a9 0) = _
      rw [h90]
      decide
    · show 0 ||| a10 0 = b
      rw [h100, mv_zor]
theorem mv_vm : ∀ k, k < 3 → ∀ x y : Bool, mv_p k x y false = true → (mv_m1 k 0 = 1 ∧ mv_m0 k 0 = 0) ∨ (mv_m1 k 0 = 2 ∧ mv_m0 k 0 = 2) := by decide
theorem mv_ve : ∀ k, k < 3 → ∀ x y z : Bool, mv_p k x y false = true → (mv_e5 k y z false = 0 ∨ mv_e5 k y z false = 2 ∨ mv_e5 k y z false = 4) ∧ ¬ mv_m1 k 0 = mv_e5 k y z false := by decide
theorem mv_o3n : ∀ x y : Bool, mv_o3 x y = none → (x || y) = false := by decide
theorem mv_o3s : ∀ x y : Bool, (mv_o3 x y).isSome = (x || y) := by decide
theorem mv_L161 (hpost : post 1 ()) (h8 : ¬ x8 < 0) (ha8 : mv_8 a) (hb8 : mv_8 b)
    (h60 : a6 0 = 1) (h61 : a6 1 = 0) (h62 : a6 2 = 0) (h63 : a6 3 = 1) (h70 : a7 0 = 2) (h73 : a7 3 = 2) (h80 : a8 0 = nI 1) (h83 : a8 3 = nI 0)
    (h90 : a9 0 = 2) (h91 : a9 1 = 4) (h9 : a9 12 = 3) (h110 : a11 0 = 0) (h11 : a11 3 = 0) (hn : n ≤ 16) :
    ∀ d i, i + d = 8 → ∀ (x10 : Int32) (a5 a10 : Nat → Int32), mv_tb (mv_P (mv_t a) (mv_t b) mv_F) mv_m1 (mv_E (mv_t b) (mv_lt (mv_t z) i) mv_F) n kd ro a1 a2 a3 a4 a5 → a10 0 = b → a10 1 = x10 → a10 12 = 0 → mv_lo x10 ((a ||| b) &&& z) i →
      wL_lawOf_161 post mc ms x1 x2 x3 a b z x8 1 kc ks (d + 1) x10 (nI i) 2 28 a1 a2 a3 a4 a5 a6 a7 a8 a9 a10 a11 a12 := by
  have h60' : ¬ a6 0 = 0 := by rw [h60]; decide
  have ho : mv_own a8 a9 0 20 := Or.inr ⟨h80, by show (0 ||| mv_bit (a9 0)) ||| mv_bit (a9 1) = _; rw [h90, h91]; decide⟩
  have h7s : a7 0 ||| 20 = 22 := by rw [h70]; decide
  intro d
  induction d with
  | zero =>
    intro i hi x10 a5 a10 T h100 h101 h10t hlo
    have hi8 : i = 8 := by omega
    subst hi8
    have hx : x10 = (a ||| b) &&& z := mv_lo8 hlo (mv_8an (mv_8or ha8 hb8))
    have T8 : mv_tb (mv_P (mv_t a) (mv_t b) mv_F) mv_m1 (mv_E (mv_t b) (mv_t z) mv_F) n kd ro a1 a2 a3 a4 a5 := mv_tbQ T (fun _ _ => rfl) (fun _ _ => rfl) (fun s hs => (mv_lt8 hs).symm) (fun _ _ => rfl)
    refine pk_le 8 8 (fun _ => ?_) (fun z => absurd z (by omega))
    refine mv_wVac (mk' := mv_m0) T8 (by omega) (fun k s hk => mv_vm k (mv_p3 hk.2) _ _ hk.2) (fun k s hk => mv_ve k (mv_p3 hk.2) _ _ _ hk.2) (fun t ht => ?_) (fun b4 b7 b12 T' hb7 => ?_)
    · by_cases e1 : t = 1
      · rw [e1]
        exact Or.inl h61
      · by_cases e2 : t = 2
        · rw [e2]
          exact Or.inl h62
        · by_cases e0 : t = 0
          · rw [e0]
            exact Or.inr h70
          · rw [show t = 3 by omega]
            exact Or.inr h73
    · have q : ∀ bk : Bool, wL_lawOf_244 post mc ms x1 x2 x3 a b z x8 1 x10 (b ||| x10) (mv_bi bk) kc ks 0 28 a1 a2 a3 b4 a5 a6 b7 a8 a9 a10 a11 b12 := fun bk =>
        mv_L244 hpost h8 hx h60 h61 h62 h63 (hb7 0 (by omega) h70) (hb7 3 (by omega) h73) h80 h83 h90 h91 h9 h11 h100 h101 h10t T' hn
      refine mv_wChanged (t := 0) (x := b ||| x10) (by omega) h60' (Or.inr ⟨h80, ?_⟩) (br_c (fun _ => q true) (fun _ => q false))
      show (0 ||| a10 0) ||| a10 1 = b ||| x10
      rw [h100, h101, mv_zor]
  | succ d ih =>
    intro i hi x10 a5 a10 T h100 h101 h10t hlo
    have hi8 : i < 8 := by omega
    have hu : ∀ u, u < 4 → u ≠ 0 → a6 u = 0 ∨ mv_chg a8 a10 u 0 := by
      intro u hu hne
      by_cases e1 : u = 1
      · rw [e1]
        exact Or.inl h61
      · by_cases e2 : u = 2
        · rw [e2]
          exact Or.inl h62
        · rw [show u = 3 by omega]
          refine Or.inr (Or.inl ⟨h83, ?_⟩)
          show 0 ||| a10 12 = 0
          rw [h10t]
          decide
    have hbit : mv_t ((a ||| b) &&& z) i = ((mv_t a i || mv_t b i) && mv_t z i) := by rw [mv_and, mv_or]
    have hno : mv_t ((a ||| b) &&& z) i = false → ∀ a5', mv_tb (mv_P (mv_t a) (mv_t b) mv_F) mv_m1 (mv_E (mv_t b) (mv_lt (mv_t z) (i + 1)) mv_F) n kd ro a1 a2 a3 a4 a5' →
        wL_lawOf_192 post mc ms (wL_lawOf_161 post mc ms x1 x2 x3 a b z x8 1 kc ks (d + 1)) x1 x2 x3 a b z x8 1 x10 (nI i) (-3) kc ks 2 28 a1 a2 a3 a4 a5' a6 a7 a8 a9 a10 a11 a12 := by
      intro e a5' T'
      unfold wL_lawOf_192
      exact br_f (by decide) (nm_r (nI_1 i) (ih (i + 1) (by omega) x10 a5' a10 T' h100 h101 h10t (mv_loF hlo e)))
    refine pk_le 8 i (fun z => absurd z (by omega)) (fun _ => mv_br hi8 (fun ez => ?_) (fun ez => ?_))
    · refine mv_wDrop (t := 0) (en' := mv_E (mv_t b) (mv_lt (mv_t z) (i + 1)) mv_F) (m := 4) T (by omega) (by omega) hi8 h60' hu (by rw [h110]; exact mv_0 i) h80 ho h7s (mv_o3 (mv_t a i) (mv_t b i)) ?_ ?_ h91 ?_ ?_ ?_
      · intro k hk
        show mv_sees 22 (mv_m1 k 0) (mv_e5 k (mv_t b i) (mv_lt (mv_t z) i i) false) = true ↔ _
        rw [mv_ltF]
        exact mv_q3 k (mv_p3 hk.2) _ _ hk.2
      · intro k e
        exact ⟨hi8, mv_b3 k (mv_ok3 (mv_a3 _ _) e) _ _ _ e⟩
      · refine mv_heP (fun k s e => ?_) (fun k hk => ?_)
        · unfold mv_E
          rw [mv_ltN e]
        · unfold mv_E
          rw [mv_ltT, mv_ltF]
          exact mv_r3 k (mv_p3 hk.2) _ _ _ hk.2 ez
      · intro e T'
        refine hno ?_ a5 T'
        rw [hbit, mv_o3n _ _ e]
        rfl
      · intro k b5 e T'
        have hs := mv_o3s (mv_t a i) (mv_t b i)
        rw [e] at hs
        unfold wL_lawOf_192
        refine br_t rfl (nm_e (nm_r (nI_1 i) (ih (i + 1) (by omega) _ b5 _ T' ?_ ?_ ?_ (mv_loT hlo hi8 ?_))))
        · rw [pk_un (by decide)]
          exact h100
        · show upd a10 1 (a10 1 ||| _) 1 = _
          rw [pk_us, h101]
        · rw [pk_un (by decide)]
          exact h10t
        · rw [hbit, ← hs, ez]
          rfl
    · refine hno ?_ a5 (mv_tbQ T (fun _ _ => rfl) (fun _ _ => rfl) (fun s _ => mv_ltE ez s) (fun _ _ => rfl))
      rw [hbit, ez, Bool.and_false]
end
end
section
section
variable {a6 : Nat → Int32} {a7 : Nat → Int64} {a8 a9 a11 a12 : Nat → Int32}
variable {post : Int32 → St0 → Prop} {mc ms kc ks : Nat} {a b z x1 x2 x3 x8 : Int32}
theorem mv_n0 : ∀ k, k < 3 → ∀ x : Bool, mv_p k x false false = true → ((2 ||| mv_bit (mv_m1 k 0)) ||| mv_bit (mv_e5 k false false false) = 2 ∨ (2 ||| mv_bit (mv_m1 k 0)) ||| mv_bit (mv_e5 k false false false) = 3) ∧ ((3 ||| mv_bit (mv_m1 k 0)) ||| mv_bit (mv_e5 k false false false) = 2 ∨ (3 ||| mv_bit (mv_m1 k 0)) ||| mv_bit (mv_e5 k false false false) = 3) := by decide +kernel
theorem mv_n3 : ∀ k, k < 3 → ∀ x : Bool, mv_p k x false false = true → ((6 ||| mv_bit (mv_m1 k 0)) ||| mv_bit (mv_e5 k false false false) = 6 ∨ (6 ||| mv_bit (mv_m1 k 0)) ||| mv_bit (mv_e5 k false false false) = 7) ∧ ((7 ||| mv_bit (mv_m1 k 0)) ||| mv_bit (mv_e5 k false false false) = 6 ∨ (7 ||| mv_bit (mv_m1 k 0)) ||| mv_bit (mv_e5 k false false false) = 7) := by decide +kernel
theorem mv_n4 : ∀ k, k < 3 → ∀ x y : Bool, mv_p k x y false = true → ((14 ||| mv_bit (mv_m1 k 0)) ||| mv_bit (mv_e5 k y false false) = 14 ∨ (14 ||| mv_bit (mv_m1 k 0)) ||| mv_bit (mv_e5 k y false false) = 15) ∧ ((15 ||| mv_bit (mv_m1 k 0)) ||| mv_bit (mv_e5 k y false false) = 14 ∨ (15 ||| mv_bit (mv_m1 k 0)) ||| mv_bit (mv_e5 k y false false) = 15) := by decide +kernel
theorem mv_L109 (hpost : post 1 ()) (h8 : ¬ x8 < 0) (ha8 : mv_8 a) (hb8 : mv_8 b)
    (h60 : a6 0 = 1) (h61 : a6 1 = 0) (h62 : a6 2 = 0) (h63 : a6 3 = 1) (h70 : a7 0 = 2) (h73 : a7 3 = 2) (h80 : a8 0 = nI 0) (h83 : a8 3 = nI 0)
    (h90 : a9 0 = 2) (h9 : a9 12 = 3) (h110 : a11 0 = 0) (h11 : a11 3 = 0) :
    ∀ d i, i + d = 8 → ∀ (n : Nat) (kd ro : Nat → Nat) (a1 a2 a3 a4 a5 a10 : Nat → Int32), mv_tb (mv_P (mv_t a) (mv_lt (mv_t b) i) mv_F) mv_m1 (mv_E (mv_lt (mv_t b) i) mv_F mv_F) n kd ro a1 a2 a3 a4 a5 → n ≤ 8 + i → mv_lo (a10 0) b i → a10 12 = 0 →
      wL_lawOf_109 post mc ms x1 x2 x3 a b z x8 kc ks (d + 1) (nI i) 2 12 a1 a2 a3 a4 a5 a6 a7 a8 a9 a10 a11 a12 := by
  have h60' : ¬ a6 0 = 0 := by rw [h60]; decide
  have ho : mv_own a8 a9 0 4 := Or.inl ⟨h80, by show 0 ||| mv_bit (a9 0) = _; rw [h90]; decide⟩
  have h7s : a7 0 ||| 4 = 6 := by rw [h70]; decide
  intro d
  induction d with
  | zero =>
    intro i hi n kd ro a1 a2 a3 a4 a5 a10 T hn hlo h10t
    have hi8 : i = 8 := by omega
    subst hi8
    have T8 : mv_tb (mv_P (mv_t a) (mv_t b) mv_F) mv_m1 (mv_E (mv_t b) mv_F mv_F) n kd ro a1 a2 a3 a4 a5 := mv_tbQ T (fun _ _ => rfl) (fun s hs => (mv_lt8 hs).symm) (fun _ _ => rfl) (fun _ _ => rfl)
    have T9 : mv_tb (mv_P (mv_t a) (mv_t b) mv_F) mv_m1 (mv_E (mv_t b) (mv_lt (mv_t z) 0) mv_F) n kd ro a1 a2 a3 a4 a5 := mv_tbQ T8 (fun _ _ => rfl) (fun _ _ => rfl) (fun _ _ => mv_lt0) (fun _ _ => rfl)
    refine pk_le 8 8 (fun _ => ?_) (fun z => absurd z (by omega))
    refine mv_wSave (t := 0) (m := 4) (by omega) h60' h80 (by omega) (by omega) (fun q hq => mv_wFN T8 (by omega) 14 15 (by decide) (fun k s hk x hx => ?_) (by omega) (by omega) (by decide +kernel) (by decide +kernel) (by decide +kernel) (by decide +kernel) hq) ?_
    · have g := mv_n4 k (mv_p3 hk.2) _ _ hk.2
      rcases hx with e | e
      · rw [e]
        exact g.1
      · rw [e]
        exact g.2
    · have e : (12 ||| mv_bit (nI 4) : Int64) = 28 := by decide
      rw [e]
      refine ⟨9, mv_L161 hpost h8 ha8 hb8 h60 h61 h62 h63 h70 h73 pk_us ?_ ?_ ?_ ?_ h110 h11 (by omega) 8 0 rfl 0 a5 _ T9 ?_ ?_ ?_ (mv_lo0 _)⟩
      · rw [pk_un (by decide)]
        exact h83
      · rw [pk_un (by decide)]
        exact h90
      · exact pk_us
      · rw [pk_un (by decide)]
        exact h9
      · rw [pk_un (by decide)]
        exact mv_lo8 hlo hb8
      · exact pk_us
      · rw [pk_un (by decide)]
        exact h10t
  | succ d ih =>
    intro i hi n kd ro a1 a2 a3 a4 a5 a10 T hn hlo h10t
    have hi8 : i < 8 := by omega
    have hu : ∀ u, u < 4 → u ≠ 0 → a6 u = 0 ∨ mv_chg a8 a10 u 0 := by
      intro u hu hne
      by_cases e1 : u = 1
      · rw [e1]
        exact Or.inl h61
      · by_cases e2 : u = 2
        · rw [e2]
          exact Or.inl h62
        · rw [show u = 3 by omega]
          refine Or.inr (Or.inl ⟨h83, ?_⟩)
          show 0 ||| a10 12 = 0
          rw [h10t]
          decide
    refine pk_le 8 i (fun z => absurd z (by omega)) (fun _ => mv_br hi8 (fun eb => ?_) (fun eb => ?_))
    · refine mv_wPut (t := 0) (P' := mv_P (mv_t a) (mv_lt (mv_t b) (i + 1)) mv_F) (en' := mv_E (mv_lt (mv_t b) (i + 1)) mv_F mv_F) T (by omega) (by omega) hi8 h60' hu (by rw [h110]; exact mv_0 i) h80 ho h7s (mv_o2 (mv_t a i)) ?_ ?_ (m := 2) h90 ?_ 1 rfl rfl ?_ ?_ ?_ ?_ ?_
      · intro k hk
        have g := hk.2
        rw [mv_ltF] at g
        show mv_sees 6 (mv_m1 k 0) (mv_e5 k (mv_lt (mv_t b) i i) false false) = true ↔ _
        rw [mv_ltF]
        exact mv_q2 k (mv_p3 hk.2) _ g
      · intro k e
        exact ⟨hi8, mv_b2 k (mv_ok3 (mv_a2 _) e) _ _ _ e⟩
      · intro k e
        have h3 := mv_ok3 (mv_a2 _) e
        have g := mv_b2 k h3 (mv_t a i) false false e
        exact (by decide : ∀ k, k < 3 → ∀ x : Bool, mv_p k x false false = true → ¬ mv_m1 k 0 = 2) k h3 _ g
      · intro g
        have q := g.2
        rw [mv_ltF] at q
        exact (by decide : ∀ x : Bool, ¬ mv_p 1 x false false = true) _ q
      · intro k s
        by_cases e : s = i
        · rw [e]
          unfold mv_P
          rw [mv_ltT, mv_ltF, eb, mv_pp1]
          constructor
          · rintro ⟨g, q | q⟩
            · exact Or.inl ⟨g, q⟩
            · exact Or.inr ⟨q, rfl⟩
          · rintro (⟨g, q⟩ | ⟨q, _⟩)
            · exact ⟨g, Or.inl q⟩
            · exact ⟨hi8, Or.inr q⟩
        · unfold mv_P
          rw [mv_ltN e]
          constructor
          · exact fun g => Or.inl g
          · rintro (g | ⟨_, q⟩)
            · exact g
            · exact absurd q e
      · refine mv_heP (fun k s e => ?_) (fun k hk => ?_)
        · unfold mv_E
          rw [mv_ltN e]
        · have g := hk.2
          rw [mv_ltF] at g
          unfold mv_E
          rw [mv_ltT, mv_ltF, eb]
          exact mv_r2 k (mv_p3 g) _ g
      · rfl
      · intro kd' ro' b1 b2 b3 b4 b5 T'
        refine nm_r (nI_1 i) (ih (i + 1) (by omega) (n + 1) kd' ro' b1 b2 b3 b4 b5 _ T' (by omega) ?_ ?_)
        · show mv_lo (upd a10 0 (a10 0 ||| _) 0) b (i + 1)
          rw [pk_us]
          exact mv_loT hlo hi8 eb
        · rw [pk_un (by decide)]
          exact h10t
    · exact nm_r (nI_1 i) (ih (i + 1) (by omega) n kd ro a1 a2 a3 a4 a5 a10 (mv_tbQ T (fun _ _ => rfl) (fun s _ => mv_ltE eb s) (fun _ _ => rfl) (fun _ _ => rfl)) (by omega) (mv_loF hlo eb) h10t)
theorem mv_L46 (hpost : post 1 ()) (ha8 : mv_8 a) (hb8 : mv_8 b)
    (h60 : a6 0 = 0) (h61 : a6 1 = 0) (h62 : a6 2 = 1) (h63 : a6 3 = 0) (h72 : a7 2 = 0) (h82 : a8 2 = nI 0) (h98 : a9 8 = 1) (h112 : a11 2 = 0) :
    ∀ d i, i + d = 8 → ∀ (n : Nat) (kd ro : Nat → Nat) (a1 a2 a3 a4 a5 a10 : Nat → Int32), mv_tb (mv_P (mv_lt (mv_t a) i) mv_F mv_F) mv_m1 (mv_E mv_F mv_F mv_F) n kd ro a1 a2 a3 a4 a5 → n ≤ i →
      wL_lawOf_46 post mc ms x1 x2 x3 a b z kc ks (d + 1) (nI i) 0 2 a1 a2 a3 a4 a5 a6 a7 a8 a9 a10 a11 a12 := by
  have h62' : ¬ a6 2 = 0 := by rw [h62]; decide
  have ho : mv_own a8 a9 2 2 := Or.inl ⟨h82, by show 0 ||| mv_bit (a9 8) = _; rw [h98]; decide⟩
  have h7s : a7 2 ||| 2 = 2 := by rw [h72]; decide
  intro d
  induction d with
  | zero =>
    intro i hi n kd ro a1 a2 a3 a4 a5 a10 T hn
    have hi8 : i = 8 := by omega
    subst hi8
    have T8 : mv_tb (mv_P (mv_t a) mv_F mv_F) mv_m1 (mv_E mv_F mv_F mv_F) n kd ro a1 a2 a3 a4 a5 := mv_tbQ T (fun s hs => (mv_lt8 hs).symm) (fun _ _ => rfl) (fun _ _ => rfl) (fun _ _ => rfl)
    have T9 : mv_tb (mv_P (mv_t a) (mv_lt (mv_t b) 0) mv_F) mv_m1 (mv_E (mv_lt (mv_t b) 0) mv_F mv_F) n kd ro a1 a2 a3 a4 a5 := mv_tbQ T8 (fun _ _ => rfl) (fun _ _ => mv_lt0) (fun _ _ => rfl) (fun _ _ => rfl)
    refine pk_le 8 8 (fun _ => ?_) (fun z => absurd z (by omega))
    refine mv_wCommit (t := 2) (by omega) h62' (Or.inl ⟨h82, rfl⟩) ho (fun j b11 hj hb => ?_)
    have e1 : (0 ||| 2 : Int64) = 2 := by decide
    have e2 : (2 &&& (2 ^^^ (-1)) : Int64) = 0 := by decide
    rw [e1, e2]
    refine mv_wOpen (t := 0) (m := 2) (by omega) ?_ (by omega) (by omega) (fun q hq => mv_wFN T8 (by omega) 2 3 (by decide) (fun k s hk x hx => ?_) (by omega) (by omega) (by decide +kernel) (by decide +kernel) (by decide +kernel) (by decide +kernel) hq) ?_
    · rw [pk_un (by decide)]
      exact h60
    · have g := mv_n0 k (mv_p3 hk.2) _ hk.2
      rcases hx with e | e
      · rw [e]
        exact g.1
      · rw [e]
        exact g.2
    · have e3 : (0 ||| mv_bit (nI 2) : Int64) = 4 := by decide
      rw [e3]
      refine mv_wOpen (t := 3) (m := 3) (by omega) ?_ (by omega) (by omega) (fun q hq => mv_wFN T8 (by omega) 6 7 (by decide) (fun k s hk x hx => ?_) (by omega) (by omega) (by decide +kernel) (by decide +kernel) (by decide +kernel) (by decide +kernel) hq) ?_
      · rw [pk_un (by decide), pk_un (by decide)]
        exact h63
      · have g := mv_n3 k (mv_p3 hk.2) _ hk.2
        rcases hx with e | e
        · rw [e]
          exact g.1
        · rw [e]
          exact g.2
      · have e4 : (4 ||| mv_bit (nI 3) : Int64) = 12 := by decide
        rw [e4]
        refine ⟨9, mv_L109 hpost (nI_pos (by omega)) ha8 hb8 ?_ ?_ ?_ ?_ ?_ ?_ ?_ ?_ ?_ ?_ ?_ ?_ 8 0 rfl n kd ro a1 a2 a3 a4 a5 _ T9 (by omega) ?_ ?_⟩
        · rw [pk_un (by decide), pk_us]
        · rw [pk_un (by decide), pk_un (by decide), pk_un (by decide)]
          exact h61
        · rw [pk_un (by decide), pk_un (by decide), pk_us]
        · exact pk_us
        · rw [pk_uLn (by decide), pk_uLs]
        · exact pk_uLs
        · rw [pk_un (by decide), pk_us]
          rfl
        · exact pk_us
        · rw [pk_un (by decide)]
          exact pk_us
        · exact pk_us
        · rw [pk_un (by decide), pk_us]
        · exact pk_us
        · rw [pk_un (by decide)]
          show mv_lo (upd a10 0 0 0) b 0
          rw [pk_us]
          exact mv_lo0 b
        · exact pk_us
  | succ d ih =>
    intro i hi n kd ro a1 a2 a3 a4 a5 a10 T hn
    have hi8 : i < 8 := by omega
    have hu : ∀ u, u < 4 → u ≠ 2 → a6 u = 0 ∨ mv_chg a8 a10 u 0 := by
      intro u hu hne
      by_cases e1 : u = 1
      · rw [e1]
        exact Or.inl h61
      · by_cases e2 : u = 0
        · rw [e2]
          exact Or.inl h60
        · rw [show u = 3 by omega]
          exact Or.inl h63
    refine pk_le 8 i (fun z => absurd z (by omega)) (fun _ => mv_br hi8 (fun eb => ?_) (fun eb => ?_))
    · refine mv_wPut (t := 2) (P' := mv_P (mv_lt (mv_t a) (i + 1)) mv_F mv_F) (en' := mv_E mv_F mv_F mv_F) T (by omega) (by omega) hi8 h62' hu (by rw [h112]; exact mv_0 i) h82 ho h7s none ?_ ?_ (m := 1) h98 ?_ 0 rfl rfl ?_ ?_ ?_ ?_ ?_
      · intro k hk
        have g := hk.2
        rw [mv_ltF] at g
        exact absurd g ((by decide : ∀ k, k < 3 → ¬ mv_p k false false false = true) k (mv_p3 g))
      · intro k e
        exact absurd e.symm (Option.some_ne_none k)
      · intro k e
        exact absurd e.symm (Option.some_ne_none k)
      · intro g
        have q := g.2
        rw [mv_ltF] at q
        exact (by decide : ¬ mv_p 0 false false false = true) q
      · intro k s
        by_cases e : s = i
        · rw [e]
          unfold mv_P
          rw [mv_ltT, mv_ltF, eb, mv_pp0]
          constructor
          · rintro ⟨g, q | q⟩
            · exact Or.inl ⟨g, q⟩
            · exact Or.inr ⟨q, rfl⟩
          · rintro (⟨g, q⟩ | ⟨q, _⟩)
            · exact ⟨g, Or.inl q⟩
            · exact ⟨hi8, Or.inr q⟩
        · unfold mv_P
          rw [mv_ltN e]
          constructor
          · exact fun g => Or.inl g
          · rintro (g | ⟨_, q⟩)
            · exact g
            · exact absurd q e
      · intro k s hk
        rw [if_neg]
        rintro ⟨_, g⟩
        exact absurd g.symm (Option.some_ne_none k)
      · rfl
      · intro kd' ro' b1 b2 b3 b4 b5 T'
        exact nm_r (nI_1 i) (ih (i + 1) (by omega) (n + 1) kd' ro' b1 b2 b3 b4 b5 _ T' (by omega))
    · exact nm_r (nI_1 i) (ih (i + 1) (by omega) n kd ro a1 a2 a3 a4 a5 a10 (mv_tbQ T (fun s _ => mv_ltE eb s) (fun _ _ => rfl) (fun _ _ => rfl) (fun _ _ => rfl)) (by omega))
end
end
section
theorem mv_wCell {post : Int32 → Prop} {L j : Nat} {xs : Nat → Int32} (hL : L ≤ 4) (hj : j < 4) (h : ∀ v, post v) : wpL_cellAt post L xs () (nI j) :=
  pk_le L j (fun _ => h 0) (fun z => ⟨pk_in j L z, h _⟩)
theorem mv_law {post : Int32 → St0 → Prop} (hpost : post 1 ()) (p0 p1 p2 p3 : Int32) : wpL_lawOf post 272 4336 () p0 p1 p2 p3 := by
  refine ⟨by omega, by omega, 12, 544, by omega, by omega, ?_⟩
  unfold wpX_init
  refine ⟨by omega, by omega, by omega, by omega, by omega, by omega, by omega, by omega, by omega, by omega, by omega, by omega, by omega, by omega, by omega, by omega, by omega, by omega, by omega, by omega, by omega, by omega, by omega, by omega, ?_⟩
  refine nm_e (nm_e (nm_e ?_))
  have T : mv_tb (mv_P (mv_lt (mv_t (p0 &&& 255)) 0) mv_F mv_F) mv_m1 (mv_E mv_F mv_F mv_F) 0 (fun _ => 0) (fun _ => 0) (fun _ => 0) (fun _ => 0) (fun _ => 0) (fun _ => 0) (fun _ => 0) := by
    refine ⟨fun _ _ _ => rfl, fun i hi => absurd hi (by omega), fun i j hi => absurd hi (by omega), fun k r h => ?_⟩
    have g := h.2
    rw [mv_lt0] at g
    exact absurd g ((by decide : ∀ k, k < 3 → ¬ mv_p k false false false = true) k (mv_p3 g))
  refine mv_wOpen (t := 2) (m := 1) (by omega) rfl (by omega) (by omega) (fun q hq => mv_wFN T (by omega) 0 0 (by decide) (fun k s hk x hx => ?_) (by omega) (by omega) (by decide +kernel) (by decide +kernel) (by decide +kernel) (by decide +kernel) hq) ?_
  · have g := hk.2
    rw [mv_lt0] at g
    exact absurd g ((by decide : ∀ k, k < 3 → ¬ mv_p k false false false = true) k (mv_p3 g))
  · have e : (0 ||| mv_bit (nI 1) : Int64) = 2 := by decide
    rw [e]
    exact ⟨9, mv_L46 hpost (mv_8and _) (mv_8and _) rfl rfl rfl rfl rfl rfl rfl rfl 8 0 rfl 0 _ _ _ _ _ _ _ _ T (by omega)⟩
theorem i_vc (xs : Nat → Int32) (L : Nat) (hL : L ≤ 4) : wpL_law (fun r => r = 1) L xs :=
  mv_wCell (j := 0) hL (by omega) (fun r1 => mv_wCell (j := 1) hL (by omega) (fun r2 => mv_wCell (j := 2) hL (by omega) (fun r3 => mv_wCell (j := 3) hL (by omega) (fun r4 =>
    ⟨272, 4336, by omega, by omega, mv_law rfl r1 r2 r3 r4⟩))))
end
