section
/-! ===== a store: N blocks, S slots, K leaves; block b lies in slot p < S, or at S + i in the stash ===== -/
theorem po_nm {b : Nat} (h : b < 2 ^ 31) : nI b ≠ -1 := fun e => absurd (show nI b < 0 by rw [e]; decide) (nI_pos h)
def po_ok (N S K : Nat) (on : Nat → Nat → Prop) (n : Nat) (ow vl tg so sv st : Nat → Int32) (V : Nat → Int32) (T : Nat → Nat) : Prop :=
  (∀ b, b < N → T b < K) ∧ ∃ pos : Nat → Nat,
    (∀ b, b < N → (pos b < S ∧ ow (pos b) = nI b ∧ vl (pos b) = V b ∧ tg (pos b) = nI (T b) ∧ on (T b) (pos b)) ∨ (∃ i, i < n ∧ pos b = S + i ∧ so i = nI b ∧ sv i = V b ∧ st i = nI (T b))) ∧
    (∀ s, s < S → ow s ≠ -1 → ∃ b, b < N ∧ pos b = s) ∧
    (∀ i, i < n → ∃ b, b < N ∧ pos b = S + i)
theorem po_pig : ∀ (N n : Nat) (f : Nat → Nat), (∀ i, i < n → f i < N) → (∀ i j, i < n → j < n → f i = f j → i = j) → n ≤ N := by
  intro N
  induction N with
  | zero =>
    intro n f h _
    rcases Nat.eq_zero_or_pos n with z | z
    · omega
    · exact absurd (h 0 z) (by omega)
  | succ N ih =>
    intro n f h hi
    cases n with
    | zero => omega
    | succ m =>
      refine Nat.succ_le_succ (ih m (fun i => if f i = N then f m else f i) ?_ ?_)
      · intro i him
        show (if f i = N then f m else f i) < N
        have h1 := h i (by omega)
        have h2 := h m (by omega)
        have h3 := hi i m (by omega) (by omega)
        by_cases e : f i = N
        · rw [if_pos e]
          rcases Nat.lt_or_ge (f m) N with z | z
          · exact z
          · have : i = m := h3 (by omega)
            omega
        · rw [if_neg e]
          omega
      · intro i j him hjm e
        have e' : (if f i = N then f m else f i) = (if f j = N then f m else f j) := e
        have a1 := hi i j (by omega) (by omega)
        have a2 := hi i m (by omega) (by omega)
        have a3 := hi j m (by omega) (by omega)
        by_cases c1 : f i = N
        · by_cases c2 : f j = N
          · exact a1 (by omega)
          · rw [if_pos c1, if_neg c2] at e'
            have := a3 e'.symm
            omega
        · by_cases c2 : f j = N
          · rw [if_neg c1, if_pos c2] at e'
            have := a2 e'
            omega
          · rw [if_neg c1, if_neg c2] at e'
            exact a1 e'
theorem po_cnt {N k : Nat} {pos pl : Nat → Nat} (h : ∀ i, i < k → ∃ b, b < N ∧ pos b = pl i) (hi : ∀ i j, i < k → j < k → pl i = pl j → i = j) : k ≤ N := by
  have h' : ∀ i, ∃ b, i < k → b < N ∧ pos b = pl i := by
    intro i
    by_cases c : i < k
    · obtain ⟨b, hb⟩ := h i c
      exact ⟨b, fun _ => hb⟩
    · exact ⟨0, fun z => absurd z c⟩
  refine po_pig N k (fun i => Classical.choose (h' i)) (fun i hik => (Classical.choose_spec (h' i) hik).1) (fun i j hik hjk e => hi i j hik hjk ?_)
  have e' : Classical.choose (h' i) = Classical.choose (h' j) := e
  rw [← (Classical.choose_spec (h' i) hik).2, ← (Classical.choose_spec (h' j) hjk).2, e']
section
variable {N S K : Nat} {on : Nat → Nat → Prop} {n : Nat} {ow vl tg so sv st : Nat → Int32} {V : Nat → Int32} {T : Nat → Nat}
theorem po_le (h : po_ok N S K on n ow vl tg so sv st V T) : n ≤ N := by
  obtain ⟨_, pos, _, _, h3⟩ := h
  refine po_cnt (pos := pos) (pl := fun i => S + i) h3 ?_
  intro i j _ _ e
  have e' : S + i = S + j := e
  omega
theorem po_lt (h : po_ok N S K on n ow vl tg so sv st V T) {s : Nat} (hs : s < S) (ho : ow s ≠ -1) : n < N := by
  obtain ⟨_, pos, _, h2, h3⟩ := h
  refine Nat.lt_of_succ_le (po_cnt (pos := pos) (pl := fun i => if i < n then S + i else s) ?_ ?_)
  · intro i hi
    show ∃ b, b < N ∧ pos b = if i < n then S + i else s
    by_cases c : i < n
    · rw [if_pos c]
      exact h3 i c
    · rw [if_neg c]
      exact h2 s hs ho
  · intro i j hi hj e
    have e' : (if i < n then S + i else s) = (if j < n then S + j else s) := e
    by_cases c1 : i < n
    · by_cases c2 : j < n
      · rw [if_pos c1, if_pos c2] at e'
        omega
      · rw [if_pos c1, if_neg c2] at e'
        omega
    · by_cases c2 : j < n
      · rw [if_neg c1, if_pos c2] at e'
        omega
      · omega
theorem po_st (h : po_ok N S K on n ow vl tg so sv st V T) {i : Nat} (hi : i < n) : ∃ b, b < N ∧ so i = nI b ∧ sv i = V b ∧ st i = nI (T b) := by
  obtain ⟨hT, pos, h1, h2, h3⟩ := h
  obtain ⟨b, hb, e⟩ := h3 i hi
  rcases h1 b hb with ⟨p1, _⟩ | ⟨j, p1, p2, p3, p4, p5⟩
  · omega
  · have ej : j = i := by omega
    rw [ej] at p3 p4 p5
    exact ⟨b, hb, p3, p4, p5⟩
theorem po_tg (h : po_ok N S K on n ow vl tg so sv st V T) {i : Nat} (hi : i < n) : ∃ t, t < K ∧ st i = nI t := by
  obtain ⟨b, hb, _, _, e⟩ := po_st h hi
  exact ⟨T b, h.1 b hb, e⟩
theorem po_chg (hN : N < 2 ^ 31) (h : po_ok N S K on n ow vl tg so sv st V T) {vl' : Nat → Int32} (hv : ∀ s, s < S → ow s ≠ -1 → vl' s = vl s) : po_ok N S K on n ow vl' tg so sv st V T := by
  obtain ⟨hT, pos, h1, h2, h3⟩ := h
  refine ⟨hT, pos, fun b hb => ?_, h2, h3⟩
  rcases h1 b hb with ⟨p1, p2, p3, p4⟩ | p
  · refine Or.inl ⟨p1, p2, ?_, p4⟩
    rw [hv _ p1 (by rw [p2]; exact po_nm (by omega))]
    exact p3
  · exact Or.inr p
theorem po_take (h : po_ok N S K on n ow vl tg so sv st V T) {s : Nat} (hs : s < S) (ho : ow s ≠ -1) :
    po_ok N S K on (n + 1) (upd ow s (-1)) vl tg (upd so n (ow s)) (upd sv n (vl s)) (upd st n (tg s)) V T := by
  obtain ⟨hT, pos, h1, h2, h3⟩ := h
  obtain ⟨P, Q1, Q2⟩ : ∃ P : Nat → Nat, (∀ b, pos b = s → P b = S + n) ∧ (∀ b, pos b ≠ s → P b = pos b) := ⟨fun b => if pos b = s then S + n else pos b, fun b e => if_pos e, fun b e => if_neg e⟩
  refine ⟨hT, P, ?_, ?_, ?_⟩
  · intro b hb
    by_cases c : pos b = s
    · rw [Q1 b c]
      refine Or.inr ⟨n, by omega, rfl, ?_⟩
      rcases h1 b hb with ⟨p1, p2, p3, p4, p5⟩ | ⟨i, p1, p2, _⟩
      · rw [c] at p2 p3 p4
        exact ⟨by rw [pk_us, p2], by rw [pk_us, p3], by rw [pk_us, p4]⟩
      · omega
    · rw [Q2 b c]
      rcases h1 b hb with ⟨p1, p2, p3, p4, p5⟩ | ⟨i, p1, p2, p3, p4, p5⟩
      · exact Or.inl ⟨p1, by rw [pk_un c]; exact p2, p3, p4, p5⟩
      · have hi : i ≠ n := by omega
        exact Or.inr ⟨i, by omega, p2, by rw [pk_un hi]; exact p3, by rw [pk_un hi]; exact p4, by rw [pk_un hi]; exact p5⟩
  · intro s' hs' ho'
    have hne : s' ≠ s := fun e => ho' (by rw [e, pk_us])
    rw [pk_un hne] at ho'
    obtain ⟨b, hb, e⟩ := h2 s' hs' ho'
    exact ⟨b, hb, by rw [Q2 b (by omega)]; exact e⟩
  · intro i hi
    by_cases c : i = n
    · obtain ⟨b, hb, e⟩ := h2 s hs ho
      exact ⟨b, hb, by rw [Q1 b e, c]⟩
    · obtain ⟨b, hb, e⟩ := h3 i (by omega)
      exact ⟨b, hb, by rw [Q2 b (by omega)]; exact e⟩
theorem po_settle (hN : N < 2 ^ 31) {m : Nat} (h : po_ok N S K on (m + 1) ow vl tg so sv st V T) {i s : Nat} (hi : i < m + 1) (hs : s < S) (ho : ow s = -1) {vl' : Nat → Int32} (hv : vl' s = sv i)
    (hv' : ∀ q, q < S → q ≠ s → ow q ≠ -1 → vl' q = vl q) (hon : ∀ t, t < K → st i = nI t → on t s) :
    po_ok N S K on m (upd ow s (so i)) vl' (upd tg s (st i)) (upd so i (so m)) (upd sv i (sv m)) (upd st i (st m)) V T := by
  obtain ⟨hT, pos, h1, h2, h3⟩ := h
  obtain ⟨P, Q1, Q2, Q3⟩ : ∃ P : Nat → Nat, (∀ b, pos b = S + i → P b = s) ∧ (∀ b, pos b ≠ S + i → pos b = S + m → P b = S + i) ∧ (∀ b, pos b ≠ S + i → pos b ≠ S + m → P b = pos b) := by
    refine ⟨fun b => if pos b = S + i then s else if pos b = S + m then S + i else pos b, fun b e => if_pos e, fun b e e2 => ?_, fun b e e2 => ?_⟩
    · show (if pos b = S + i then s else if pos b = S + m then S + i else pos b) = S + i
      rw [if_neg e, if_pos e2]
    · show (if pos b = S + i then s else if pos b = S + m then S + i else pos b) = pos b
      rw [if_neg e, if_neg e2]
  refine ⟨hT, P, ?_, ?_, ?_⟩
  · intro b hb
    by_cases c : pos b = S + i
    · rw [Q1 b c]
      rcases h1 b hb with ⟨p1, _⟩ | ⟨j, p1, p2, p3, p4, p5⟩
      · omega
      · have ej : j = i := by omega
        rw [ej] at p3 p4 p5
        exact Or.inl ⟨hs, by rw [pk_us, p3], by rw [hv, p4], by rw [pk_us, p5], hon _ (hT b hb) p5⟩
    · by_cases c2 : pos b = S + m
      · rw [Q2 b c c2]
        rcases h1 b hb with ⟨p1, _⟩ | ⟨j, p1, p2, p3, p4, p5⟩
        · omega
        · have ej : j = m := by omega
          rw [ej] at p3 p4 p5
          exact Or.inr ⟨i, by omega, rfl, by rw [pk_us, p3], by rw [pk_us, p4], by rw [pk_us, p5]⟩
      · rw [Q3 b c c2]
        rcases h1 b hb with ⟨p1, p2, p3, p4, p5⟩ | ⟨j, p1, p2, p3, p4, p5⟩
        · have hne : pos b ≠ s := fun e => po_nm (Nat.lt_trans hb hN) (by rw [← p2, e, ho])
          exact Or.inl ⟨p1, by rw [pk_un hne, p2], by rw [hv' _ p1 hne (by rw [p2]; exact po_nm (Nat.lt_trans hb hN)), p3], by rw [pk_un hne, p4], p5⟩
        · have hji : j ≠ i := by omega
          exact Or.inr ⟨j, by omega, p2, by rw [pk_un hji, p3], by rw [pk_un hji, p4], by rw [pk_un hji, p5]⟩
  · intro q hq hoq
    by_cases c : q = s
    · obtain ⟨b, hb, e⟩ := h3 i hi
      exact ⟨b, hb, by rw [Q1 b e, c]⟩
    · rw [pk_un c] at hoq
      obtain ⟨b, hb, e⟩ := h2 q hq hoq
      exact ⟨b, hb, by rw [Q3 b (by omega) (by omega)]; exact e⟩
  · intro j hj
    by_cases c : j = i
    · obtain ⟨b, hb, e⟩ := h3 m (by omega)
      exact ⟨b, hb, by rw [Q2 b (by omega) e, c]⟩
    · obtain ⟨b, hb, e⟩ := h3 j (by omega)
      exact ⟨b, hb, by rw [Q3 b (by omega) (by omega)]; exact e⟩
theorem po_at (hN : N < 2 ^ 31) {pos : Nat → Nat} {b j : Nat} (hb : b < N)
    (h1 : ∀ b, b < N → (pos b < S ∧ ow (pos b) = nI b ∧ vl (pos b) = V b ∧ tg (pos b) = nI (T b) ∧ on (T b) (pos b)) ∨ (∃ i, i < n ∧ pos b = S + i ∧ so i = nI b ∧ sv i = V b ∧ st i = nI (T b)))
    (h3 : ∀ i, i < n → ∃ b, b < N ∧ pos b = S + i) (hj : j < n) (e : so j = nI b) : pos b = S + j := by
  obtain ⟨b', hb', e'⟩ := h3 j hj
  rcases h1 b' hb' with ⟨p1, _⟩ | ⟨i, p1, p2, p3, _⟩
  · omega
  · have ei : i = j := by omega
    rw [ei, e, nI_eq (by omega) (by omega)] at p3
    rw [p3]
    exact e'
theorem po_find (hN : N < 2 ^ 31) (h : po_ok N S K on n ow vl tg so sv st V T) {b : Nat} (hb : b < N) (he : ∀ s, s < S → on (T b) s → ow s = -1) :
    ∃ i, i < n ∧ so i = nI b ∧ sv i = V b ∧ st i = nI (T b) ∧ ∀ j, j < n → so j = nI b → j = i := by
  obtain ⟨hT, pos, h1, h2, h3⟩ := h
  rcases h1 b hb with ⟨p1, p2, p3, p4, p5⟩ | ⟨i, p1, p2, p3, p4, p5⟩
  · exact absurd (he _ p1 p5) (by rw [p2]; exact po_nm (by omega))
  · exact ⟨i, p1, p3, p4, p5, fun j hj e => by have := po_at hN hb h1 h3 hj e; omega⟩
theorem po_set (hN : N < 2 ^ 31) (h : po_ok N S K on n ow vl tg so sv st V T) {i b t : Nat} {v : Int32} (hi : i < n) (hb : b < N) (ho : so i = nI b) (ht : t < K) {V' : Nat → Int32} {T' : Nat → Nat}
    (hV : V' b = v) (hV' : ∀ q, q ≠ b → V' q = V q) (hT : T' b = t) (hT' : ∀ q, q ≠ b → T' q = T q) :
    po_ok N S K on n ow vl tg so (upd sv i v) (upd st i (nI t)) V' T' := by
  obtain ⟨g, pos, h1, h2, h3⟩ := h
  have hp : pos b = S + i := po_at hN hb h1 h3 hi ho
  refine ⟨fun q hq => ?_, pos, ?_, h2, h3⟩
  · by_cases c : q = b
    · rw [c, hT]
      exact ht
    · rw [hT' q c]
      exact g q hq
  · intro q hq
    by_cases c : q = b
    · rw [c]
      exact Or.inr ⟨i, hi, hp, ho, by rw [pk_us, hV], by rw [pk_us, hT]⟩
    · rw [hV' q c, hT' q c]
      rcases h1 q hq with p | ⟨j, p1, p2, p3, p4, p5⟩
      · exact Or.inl p
      · have hj : j ≠ i := fun e => c (by rw [e, ho, nI_eq (by omega) (by omega)] at p3; exact p3.symm)
        exact Or.inr ⟨j, p1, p2, p3, by rw [pk_un hj, p4], by rw [pk_un hj, p5]⟩
theorem po_new (hT : ∀ b, b < N → T b < K) (ho : ∀ s, s < S → ow s = -1) (hs : ∀ b, b < N → so b = nI b ∧ sv b = V b ∧ st b = nI (T b)) : po_ok N S K on N ow vl tg so sv st V T :=
  ⟨hT, fun b => S + b, fun b hb => Or.inr ⟨b, hb, rfl, hs b hb⟩, fun s h e => absurd (ho s h) e, fun i hi => ⟨i, hi, rfl⟩⟩
end
end
section
/-! ===== buckets, fields of a word, the pad ===== -/
def po_bk (l k : Nat) : Nat := (8 + l) / 2 ^ (3 - k)
def po_on (l s : Nat) : Prop := ∃ k, k < 4 ∧ s / 4 = po_bk l k
def po_mbk (l k : Nat) : Nat := (4 + l) / 2 ^ (2 - k)
def po_mon (l s : Nat) : Prop := ∃ k, k < 3 ∧ s / 2 = po_mbk l k
theorem po_bk_in : ∀ l, l < 8 → ∀ k, k < 4 → 1 ≤ po_bk l k ∧ po_bk l k < 16 := by decide +kernel
theorem po_bk_lt : ∀ l, l < 8 → ∀ k, k < 4 → ∀ j, j < k → po_bk l j < po_bk l k := by decide +kernel
theorem po_bk_I : ∀ l, l < 8 → ∀ k, k < 4 → ((8 : Int32) + nI l) >>> (((3 : Int32) - nI k) &&& 31) = nI (po_bk l k) := by decide +kernel
theorem po_mbk_in : ∀ l, l < 4 → ∀ k, k < 3 → 1 ≤ po_mbk l k ∧ po_mbk l k < 8 := by decide +kernel
theorem po_mbk_I : ∀ l, l < 4 → ∀ k, k < 3 → ((4 : Int32) + nI l) >>> (((2 : Int32) - nI k) &&& 31) = nI (po_mbk l k) := by decide +kernel
theorem po_b2 (B : Nat) : (2 : Int32) * nI B + 2 = nI (2 * B + 2) := by
  show nI 2 * nI B + nI 2 = nI (2 * B + 2)
  rw [pk_mul, nI_add]
theorem po_b4 (B : Nat) : (4 : Int32) * nI B + 4 = nI (4 * B + 4) := by
  show nI 4 * nI B + nI 4 = nI (4 * B + 4)
  rw [pk_mul, nI_add]
/-- levels downward: -1 behind 0 -/
def po_lv : Nat → Int32
  | 0 => -1
  | k + 1 => nI k
theorem po_lv_s (k : Nat) : nI k + (-1) = po_lv k := by
  cases k with
  | zero => decide
  | succ k => exact pk_m1 k
/-! fields: three bits at 3 j -/
def po_f (w : Int32) (j : Nat) : Int32 := (w >>> (nI (3 * j) &&& 31)) &&& 7
theorem po_or7 (a b : Int32) : (a ||| b) &&& 7 = (a &&& 7) ||| (b &&& 7) := by
  apply Int32.toBitVec_inj.mp
  apply BitVec.eq_of_getLsbD_eq
  intro i hi
  rw [Int32.toBitVec_and, Int32.toBitVec_or, Int32.toBitVec_or, Int32.toBitVec_and, Int32.toBitVec_and, BitVec.getLsbD_and, BitVec.getLsbD_or, BitVec.getLsbD_or, BitVec.getLsbD_and, BitVec.getLsbD_and]
  cases a.toBitVec.getLsbD i <;> cases b.toBitVec.getLsbD i <;> cases (7 : Int32).toBitVec.getLsbD i <;> rfl
theorem po_and7 (a b : Int32) : (a &&& b) &&& 7 = (a &&& 7) &&& (b &&& 7) := by
  apply Int32.toBitVec_inj.mp
  apply BitVec.eq_of_getLsbD_eq
  intro i hi
  rw [Int32.toBitVec_and, Int32.toBitVec_and, Int32.toBitVec_and, Int32.toBitVec_and, Int32.toBitVec_and, BitVec.getLsbD_and, BitVec.getLsbD_and, BitVec.getLsbD_and, BitVec.getLsbD_and, BitVec.getLsbD_and]
  cases a.toBitVec.getLsbD i <;> cases b.toBitVec.getLsbD i <;> cases (7 : Int32).toBitVec.getLsbD i <;> rfl
theorem po_f_or (x y : Int32) (j : Nat) : po_f (x ||| y) j = po_f x j ||| po_f y j := by
  unfold po_f
  rw [Int32.shiftRight_or, po_or7]
theorem po_f_and (x y : Int32) (j : Nat) : po_f (x &&& y) j = po_f x j &&& po_f y j := by
  unfold po_f
  rw [Int32.shiftRight_and, po_and7]
theorem po_f_7 (x : Int32) (j : Nat) : po_f x j &&& 7 = po_f x j := by
  unfold po_f
  rw [Int32.and_assoc]
  rfl
theorem po_f_lit : ∀ q, q < 8 → ∀ i, i < 4 → ∀ j, j < 4 → po_f (nI q <<< (nI (3 * i) &&& 31)) j = if i = j then nI q else 0 := by decide +kernel
theorem po_f_msk : ∀ i, i < 4 → ∀ j, j < 4 → po_f (((7 : Int32) <<< (nI (3 * i) &&& 31)) ^^^ (-1)) j = if i = j then 0 else 7 := by decide +kernel
theorem po_and0 (a : Int32) : a &&& 0 = 0 := Int32.toBitVec_inj.mp BitVec.and_zero
theorem po_f_put (x : Int32) {q i j : Nat} (hq : q < 8) (hi : i < 4) (hj : j < 4) :
    po_f ((x &&& (((7 : Int32) <<< (nI (3 * i) &&& 31)) ^^^ (-1))) ||| (nI q <<< (nI (3 * i) &&& 31))) j = if i = j then nI q else po_f x j := by
  rw [po_f_or, po_f_and, po_f_msk i hi j hj, po_f_lit q hq i hi j hj]
  by_cases c : i = j
  · rw [if_pos c, if_pos c, if_pos c, po_and0, Int32.zero_or]
  · rw [if_neg c, if_neg c, if_neg c, po_f_7, Int32.or_zero]
theorem po_f_add (x : Int32) {q i j : Nat} (hq : q < 8) (hi : i < 4) (hj : j < 4) (h0 : po_f x i = 0) :
    po_f (x ||| (nI q <<< (nI (3 * i) &&& 31))) j = if i = j then nI q else po_f x j := by
  rw [po_f_or, po_f_lit q hq i hi j hj]
  by_cases c : i = j
  · rw [if_pos c, if_pos c, ← c, h0, Int32.zero_or]
  · rw [if_neg c, if_neg c, Int32.or_zero]
theorem po_f_0 (j : Nat) (hj : j < 4) : po_f 0 j = 0 := (by decide +kernel : ∀ j, j < 4 → po_f 0 j = 0) j hj
theorem po_w (b : Nat) (hb : b < 16) : nI b >>> ((2 : Int32) &&& 31) = nI (b / 4) := pk_shrN (by omega) _ 2 (by decide)
theorem po_w64 (b : Nat) (hb : b < 64) : nI b >>> ((2 : Int32) &&& 31) = nI (b / 4) := pk_shrN (by omega) _ 2 (by decide)
theorem po_sh : ∀ b, b < 16 → (3 : Int32) * (nI b &&& 3) = nI (3 * (b % 4)) := by decide +kernel
/-! the pad of a slot -/
def po_p1 (x : Int32) : Int32 := (x ^^^ ((x.toUInt32 >>> ((15 : Int32).toUInt32 &&& Int32.toUInt32 31)).toInt32)) * 668265263
def po_p2 (x : Int32) : Int32 := (x ^^^ ((x.toUInt32 >>> ((13 : Int32).toUInt32 &&& Int32.toUInt32 31)).toInt32)) * 1103515245
def po_p3 (x : Int32) : Int32 := x ^^^ ((x.toUInt32 >>> ((16 : Int32).toUInt32 &&& Int32.toUInt32 31)).toInt32)
def po_pd (k v s : Int32) : Int32 := po_p3 (po_p2 (po_p1 ((k + (s * 1640531527)) + (v * 374761393))))
def po_vl (k : Int32) (a2 a4 : Nat → Int32) : Nat → Int32 := fun s => a2 s ^^^ po_pd k (a4 (s / 4)) (nI s)
theorem po_xx (a b : Int32) : (a ^^^ b) ^^^ b = a := by rw [Int32.xor_assoc, Int32.xor_self, Int32.xor_zero]
section
variable {f0_stashed f0_mapStashed f0_random f0_key f0_touchedNow : Int32} {a1 a2 a3 a4 a5 a6 a7 a8 a9 a10 a11 a12 a13 a14 a15 a16 : Nat → Int32}
theorem po_pad {post : Int32 → Prop} {s : Nat} (hs : s < 64) (H : post (po_pd f0_key (a4 (s / 4)) (nI s))) :
    wpX_pad post (f0_stashed, f0_mapStashed, f0_random, f0_key, f0_touchedNow, a1, a2, a3, a4, a5, a6, a7, a8, a9, a10, a11, a12, a13, a14, a15, a16) (nI s) := by
  refine ⟨by rw [po_w64 s hs]; exact pk_in (s / 4) 16 (by omega), ?_⟩
  rw [po_w64 s hs, nI_clamp (show s / 4 < 2 ^ 31 by omega)]
  exact nm_e (nm_e (nm_e H))
theorem po_bu {post : Int32 → Prop} {l k : Nat} (hl : l < 8) (hk : k < 4) (H : post (nI (po_bk l k))) : wpX_bucketAt post () (nI l) (nI k) := by
  show post (((8 : Int32) + nI l) >>> (((3 : Int32) - nI k) &&& 31))
  rw [po_bk_I l hl k hk]
  exact H
theorem po_mb {post : Int32 → Prop} {l k : Nat} (hl : l < 4) (hk : k < 3) (H : post (nI (po_mbk l k))) : wpX_mapBucketAt post () (nI l) (nI k) := by
  show post (((4 : Int32) + nI l) >>> (((2 : Int32) - nI k) &&& 31))
  rw [po_mbk_I l hl k hk]
  exact H
/-! the generator: any answer, any new state of it -/
theorem po_nx1 {post : Int32 → St2 → Prop} (H : ∀ x r, post x (f0_stashed, f0_mapStashed, r, f0_key, f0_touchedNow, a1, a2, a3, a4, a5, a6, a7, a8, a9, a10, a11, a12, a13, a14, a15, a16)) : wpX_next post (f0_stashed, f0_mapStashed, f0_random, f0_key, f0_touchedNow, a1, a2, a3, a4, a5, a6, a7, a8, a9, a10, a11, a12, a13, a14, a15, a16) := fun _ _ _ _ _ _ => H _ _
theorem po_nx2 {post : Int32 → St2 → Prop} (H : ∀ x r, post x (f0_stashed, f0_mapStashed, r, f0_key, f0_touchedNow, a1, a2, a3, a4, a5, a6, a7, a8, a9, a10, a11, a12, a13, a14, a15, a16)) : wpX_next_2 post (f0_stashed, f0_mapStashed, f0_random, f0_key, f0_touchedNow, a1, a2, a3, a4, a5, a6, a7, a8, a9, a10, a11, a12, a13, a14, a15, a16) := fun _ _ _ _ _ _ => H _ _
theorem po_nx3 {post : Int32 → St2 → Prop} (H : ∀ x r, post x (f0_stashed, f0_mapStashed, r, f0_key, f0_touchedNow, a1, a2, a3, a4, a5, a6, a7, a8, a9, a10, a11, a12, a13, a14, a15, a16)) : wpX_next_3 post (f0_stashed, f0_mapStashed, f0_random, f0_key, f0_touchedNow, a1, a2, a3, a4, a5, a6, a7, a8, a9, a10, a11, a12, a13, a14, a15, a16) := fun _ _ _ _ _ _ => H _ _
end
end
section
/-! ===== the smaller store: readMapPath, mapFitting, writeMapPath ===== -/
def po_mok (m : Nat) (a8 a9 a10 a11 a12 a13 : Nat → Int32) (V : Nat → Int32) (T : Nat → Nat) : Prop := po_ok 4 16 4 po_mon m a8 a9 a10 a11 a12 a13 V T
section
variable {f0_stashed f0_mapStashed f0_random f0_key f0_touchedNow : Int32} {a1 a2 a3 a4 a5 a6 a7 a8 a9 a10 a11 a12 a13 a14 a15 a16 : Nat → Int32} {V : Nat → Int32} {T : Nat → Nat}
theorem po_rm18 {post : St2 → Prop} {J2 : Int32 → Int32 → (Nat → Int32) → (Nat → Int32) → (Nat → Int32) → (Nat → Int32) → (Nat → Int32) → (Nat → Int32) → (Nat → Int32) → (Nat → Int32) → (Nat → Int32) → (Nat → Int32) → (Nat → Int32) → (Nat → Int32) → (Nat → Int32) → (Nat → Int32) → (Nat → Int32) → (Nat → Int32) → Prop} {l k B : Nat} {P : Nat → Prop} (hB : B < 8)
    (HJ : ∀ (m : Nat) (a8 a11 a12 a13 : Nat → Int32), po_mok m a8 a9 a10 a11 a12 a13 V T → (∀ s, P s → a8 s = -1) → (∀ s, 2 * B ≤ s → s < 2 * B + 2 → a8 s = -1) → J2 (nI (k + 1)) (nI m) a1 a2 a3 a4 a5 a6 a7 a8 a9 a10 a11 a12 a13 a14 a15 a16) :
    ∀ (d i m : Nat) (a8 a11 a12 a13 : Nat → Int32), i + d = 2 * B + 2 → po_mok m a8 a9 a10 a11 a12 a13 V T → (∀ s, P s → a8 s = -1) → (∀ s, 2 * B ≤ s → s < i → a8 s = -1) →
      wX_readMapPath_18 post J2 (nI l) (nI k) (nI B) f0_stashed f0_random f0_key f0_touchedNow (d + 1) (nI i) (nI m) a1 a2 a3 a4 a5 a6 a7 a8 a9 a10 a11 a12 a13 a14 a15 a16 := by
  intro d
  induction d with
  | zero =>
    intro i m a8 a11 a12 a13 hi ok hP hF
    exact pk_le (2 * B + 2) i (fun _ => nm_r (nI_1 k) (HJ m a8 a11 a12 a13 ok hP (fun s h1 h2 => hF s h1 (by omega)))) (fun z => absurd z (by omega)) (po_b2 B) rfl
  | succ d ih =>
    intro i m a8 a11 a12 a13 hi ok hP hF
    refine pk_le (2 * B + 2) i (fun z => absurd z (by omega)) (fun _ => ⟨pk_in i 16 (by omega), ?_⟩) (po_b2 B) rfl
    rw [nI_clamp (show i < 2 ^ 31 by omega)]
    refine br_c (fun e => nm_r (nI_1 i) (ih (i + 1) m a8 a11 a12 a13 (by omega) ok hP ?_)) (fun e => ?_)
    · intro s h1 h2
      by_cases c : s = i
      · rw [c]
        exact e
      · exact hF s h1 (by omega)
    · have hm : m < 4 := po_lt ok (s := i) (by omega) e
      refine pk_le 4 m (fun z => absurd z (by omega)) (fun _ => ?_)
      rw [nI_clamp (show m < 2 ^ 31 by omega)]
      refine ⟨pk_in i 16 (by omega), pk_in m 4 hm, nm_e ⟨pk_in i 16 (by omega), pk_in m 4 hm, nm_e ⟨pk_in i 16 (by omega), pk_in m 4 hm, nm_e ⟨pk_in i 16 (by omega), nm_e (nm_r (nI_1 m) (nm_r (nI_1 i) ?_))⟩⟩⟩⟩
      refine ih (i + 1) (m + 1) _ _ _ _ (by omega) (po_take ok (by omega) e) ?_ ?_
      · intro s hs
        by_cases c : s = i
        · rw [c, pk_us]
        · rw [pk_un c]
          exact hP s hs
      · intro s h1 h2
        by_cases c : s = i
        · rw [c, pk_us]
        · rw [pk_un c]
          exact hF s h1 (by omega)
theorem po_rm2 {post : St2 → Prop} {l : Nat} (hl : l < 4)
    (H : ∀ (m : Nat) (a8 a11 a12 a13 : Nat → Int32), po_mok m a8 a9 a10 a11 a12 a13 V T → (∀ s, po_mon l s → a8 s = -1) → post (f0_stashed, nI m, f0_random, f0_key, f0_touchedNow, a1, a2, a3, a4, a5, a6, a7, a8, a9, a10, a11, a12, a13, a14, a15, a16)) :
    ∀ (d k m : Nat) (a8 a11 a12 a13 : Nat → Int32), k + d = 3 → po_mok m a8 a9 a10 a11 a12 a13 V T → (∀ s, (∃ j, j < k ∧ s / 2 = po_mbk l j) → a8 s = -1) →
      wX_readMapPath_2 post (nI l) f0_stashed f0_random f0_key f0_touchedNow (d + 1) (nI k) (nI m) a1 a2 a3 a4 a5 a6 a7 a8 a9 a10 a11 a12 a13 a14 a15 a16 := by
  intro d
  induction d with
  | zero =>
    intro k m a8 a11 a12 a13 hk ok hP
    refine pk_le 3 k (fun _ => H m a8 a11 a12 a13 ok ?_) (fun z => absurd z (by omega))
    intro s ⟨j, hj, e⟩
    exact hP s ⟨j, by omega, e⟩
  | succ d ih =>
    intro k m a8 a11 a12 a13 hk ok hP
    have hB := po_mbk_in l hl k (by omega)
    refine pk_le 3 k (fun z => absurd z (by omega)) (fun _ => po_mb hl (by omega) (nm_r (pk_mul 2 _) ⟨2 + 1, ?_⟩))
    refine po_rm18 (P := fun s => ∃ j, j < k ∧ s / 2 = po_mbk l j) hB.2 ?_ 2 (2 * po_mbk l k) m a8 a11 a12 a13 rfl ok hP ?_
    · intro m a8 a11 a12 a13 ok hP hF
      refine ih (k + 1) m a8 a11 a12 a13 (by omega) ok ?_
      intro s ⟨j, hj, e⟩
      by_cases c : j = k
      · rw [c] at e
        exact hF s (by omega) (by omega)
      · exact hP s ⟨j, by omega, e⟩
    · intro s h1 h2
      omega
theorem po_rm {post : St2 → Prop} {l m : Nat} (hl : l < 4) (ok : po_mok m a8 a9 a10 a11 a12 a13 V T)
    (H : ∀ (m : Nat) (a8 a11 a12 a13 : Nat → Int32), po_mok m a8 a9 a10 a11 a12 a13 V T → (∀ s, po_mon l s → a8 s = -1) → post (f0_stashed, nI m, f0_random, f0_key, f0_touchedNow, a1, a2, a3, a4, a5, a6, a7, a8, a9, a10, a11, a12, a13, a14, a15, a16)) :
    wpX_readMapPath post (f0_stashed, nI m, f0_random, f0_key, f0_touchedNow, a1, a2, a3, a4, a5, a6, a7, a8, a9, a10, a11, a12, a13, a14, a15, a16) (nI l) :=
  ⟨3 + 1, po_rm2 hl H 3 0 m a8 a11 a12 a13 rfl ok (fun s h => by obtain ⟨j, hj, _⟩ := h; omega)⟩
theorem po_mf {post : Int32 → Prop} {m l k : Nat} (hm : m ≤ 4) (hl : l < 4) (hk : k < 3) (hT : ∀ i, i < m → ∃ t, t < 4 ∧ a13 i = nI t) (H0 : post (-1))
    (H1 : ∀ i t, i < m → t < 4 → a13 i = nI t → po_mbk t k = po_mbk l k → post (nI i)) : wpX_mapFitting post (f0_stashed, nI m, f0_random, f0_key, f0_touchedNow, a1, a2, a3, a4, a5, a6, a7, a8, a9, a10, a11, a12, a13, a14, a15, a16) (nI l) (nI k) := by
  have main : ∀ d i, i + d = m → wX_mapFitting_2 post (nI l) (nI k) f0_stashed (nI m) f0_random f0_key f0_touchedNow a1 a2 a3 a4 a5 a6 a7 a8 a9 a10 a11 a12 a13 a14 a15 a16 (d + 1) (nI i) := by
    intro d
    induction d with
    | zero =>
      intro i hi
      exact pk_le m i (fun _ => H0) (fun z => absurd z (by omega))
    | succ d ih =>
      intro i hi
      refine pk_le m i (fun _ => H0) (fun z => ⟨pk_in i 4 (by omega), ?_⟩)
      rw [nI_clamp (show i < 2 ^ 31 by omega)]
      obtain ⟨t, ht, et⟩ := hT i z
      rw [et]
      have b1 := po_mbk_in t ht k hk
      have b2 := po_mbk_in l hl k hk
      exact po_mb ht hk (po_mb hl hk (pk_eq (po_mbk t k) (po_mbk l k) (fun e => H1 i t z ht et e) (fun _ => nm_r (nI_1 i) (ih (i + 1) (by omega)))))
  exact ⟨m + 1, main m 0 (by omega)⟩
theorem po_wm17 {post : St2 → Prop} {J2 : Int32 → Int32 → (Nat → Int32) → (Nat → Int32) → (Nat → Int32) → (Nat → Int32) → (Nat → Int32) → (Nat → Int32) → (Nat → Int32) → (Nat → Int32) → (Nat → Int32) → (Nat → Int32) → (Nat → Int32) → (Nat → Int32) → (Nat → Int32) → (Nat → Int32) → (Nat → Int32) → (Nat → Int32) → Prop} {l k B : Nat} (hl : l < 4) (hk : k < 3) (hB : B < 8) (eB : B = po_mbk l k)
    (HJ : ∀ (m : Nat) (a8 a9 a10 a11 a12 a13 : Nat → Int32), po_mok m a8 a9 a10 a11 a12 a13 V T → J2 (po_lv k) (nI m) a1 a2 a3 a4 a5 a6 a7 a8 a9 a10 a11 a12 a13 a14 a15 a16) :
    ∀ (d i m : Nat) (a8 a9 a10 a11 a12 a13 : Nat → Int32), i + d = 2 * B + 2 → 2 * B ≤ i → po_mok m a8 a9 a10 a11 a12 a13 V T →
      wX_writeMapPath_17 post J2 (nI l) (nI k) (nI B) f0_stashed f0_random f0_key f0_touchedNow (d + 1) (nI i) (nI m) a1 a2 a3 a4 a5 a6 a7 a8 a9 a10 a11 a12 a13 a14 a15 a16 := by
  intro d
  induction d with
  | zero =>
    intro i m a8 a9 a10 a11 a12 a13 hi hi2 ok
    exact pk_le (2 * B + 2) i (fun _ => nm_r (po_lv_s k) (HJ m a8 a9 a10 a11 a12 a13 ok)) (fun z => absurd z (by omega)) (po_b2 B) rfl
  | succ d ih =>
    intro i m a8 a9 a10 a11 a12 a13 hi hi2 ok
    have hm : m ≤ 4 := po_le ok
    refine pk_le (2 * B + 2) i (fun z => absurd z (by omega)) (fun _ => ?_) (po_b2 B) rfl
    refine po_mf hm hl hk (fun j hj => po_tg ok hj) ?_ ?_
    · refine ⟨pk_in i 16 (by omega), ?_⟩
      rw [nI_clamp (show i < 2 ^ 31 by omega)]
      exact br_c (fun e => br_t rfl (nm_r (nI_1 i) (ih (i + 1) m a8 a9 a10 a11 a12 a13 (by omega) (by omega) ok))) (fun e => nm_r (nI_1 i) (ih (i + 1) m a8 a9 a10 a11 a12 a13 (by omega) (by omega) ok))
    · intro j t hj ht et eb
      obtain ⟨q, rfl⟩ : ∃ q, m = q + 1 := ⟨m - 1, by omega⟩
      refine ⟨pk_in i 16 (by omega), ?_⟩
      rw [nI_clamp (show i < 2 ^ 31 by omega)]
      refine br_c (fun e => br_f (po_nm (by omega)) (nm_r (nI_pred q) ?_)) (fun e => nm_r (nI_1 i) (ih (i + 1) (q + 1) a8 a9 a10 a11 a12 a13 (by omega) (by omega) ok))
      rw [nI_clamp (show j < 2 ^ 31 by omega), nI_clamp (show q < 2 ^ 31 by omega)]
      refine ⟨pk_in j 4 (by omega), pk_in i 16 (by omega), nm_e ⟨pk_in j 4 (by omega), pk_in i 16 (by omega), nm_e ⟨pk_in j 4 (by omega), pk_in i 16 (by omega), nm_e ⟨pk_in q 4 (by omega), pk_in j 4 (by omega), nm_e ⟨pk_in q 4 (by omega), pk_in j 4 (by omega), nm_e ⟨pk_in q 4 (by omega), pk_in j 4 (by omega), nm_e (nm_r (nI_1 i) ?_)⟩⟩⟩⟩⟩⟩
      refine ih (i + 1) q _ _ _ _ _ _ (by omega) (by omega) (po_settle (by decide) ok hj (by omega) e pk_us (fun s _ hne _ => pk_un hne) ?_)
      intro t' ht' e'
      have e2 : nI t = nI t' := by rw [← et, ← e']
      rw [nI_eq (by omega) (by omega)] at e2
      refine ⟨k, hk, ?_⟩
      rw [← e2, eb, ← eB]
      omega
theorem po_wm2 {post : St2 → Prop} {l : Nat} (hl : l < 4)
    (H : ∀ (m : Nat) (a8 a9 a10 a11 a12 a13 : Nat → Int32), po_mok m a8 a9 a10 a11 a12 a13 V T → post (f0_stashed, nI m, f0_random, f0_key, f0_touchedNow, a1, a2, a3, a4, a5, a6, a7, a8, a9, a10, a11, a12, a13, a14, a15, a16)) :
    ∀ (c m : Nat) (a8 a9 a10 a11 a12 a13 : Nat → Int32), c ≤ 3 → po_mok m a8 a9 a10 a11 a12 a13 V T →
      wX_writeMapPath_2 post (nI l) f0_stashed f0_random f0_key f0_touchedNow (c + 1) (po_lv c) (nI m) a1 a2 a3 a4 a5 a6 a7 a8 a9 a10 a11 a12 a13 a14 a15 a16 := by
  intro c
  induction c with
  | zero =>
    intro m a8 a9 a10 a11 a12 a13 _ ok
    exact br_t (by decide) (H m a8 a9 a10 a11 a12 a13 ok)
  | succ k ih =>
    intro m a8 a9 a10 a11 a12 a13 hk ok
    have hB := po_mbk_in l hl k (by omega)
    rw [show po_lv (k + 1) = nI k from rfl]
    refine br_f (nI_pos (by omega)) (po_mb hl (by omega) (nm_r (pk_mul 2 _) ⟨2 + 1, ?_⟩))
    refine po_wm17 hl (by omega) hB.2 rfl ?_ 2 (2 * po_mbk l k) m a8 a9 a10 a11 a12 a13 rfl (Nat.le_refl _) ok
    intro m a8 a9 a10 a11 a12 a13 ok
    exact ih m a8 a9 a10 a11 a12 a13 (by omega) ok
theorem po_wm {post : St2 → Prop} {l m : Nat} (hl : l < 4) (ok : po_mok m a8 a9 a10 a11 a12 a13 V T)
    (H : ∀ (m : Nat) (a8 a9 a10 a11 a12 a13 : Nat → Int32), po_mok m a8 a9 a10 a11 a12 a13 V T → post (f0_stashed, nI m, f0_random, f0_key, f0_touchedNow, a1, a2, a3, a4, a5, a6, a7, a8, a9, a10, a11, a12, a13, a14, a15, a16)) :
    wpX_writeMapPath post (f0_stashed, nI m, f0_random, f0_key, f0_touchedNow, a1, a2, a3, a4, a5, a6, a7, a8, a9, a10, a11, a12, a13, a14, a15, a16) (nI l) :=
  ⟨3 + 1, po_wm2 hl H 3 m a8 a9 a10 a11 a12 a13 (Nat.le_refl _) ok⟩
end
end
section
/-! ===== the tree: readPath, fitting, settle, writePath ===== -/
def po_tok (k : Int32) (n : Nat) (a1 a2 a3 a4 a5 a6 a7 : Nat → Int32) (V : Nat → Int32) (T : Nat → Nat) : Prop := po_ok 16 64 8 po_on n a1 (po_vl k a2 a4) a3 a5 a6 a7 V T
section
variable {f0_stashed f0_mapStashed f0_random f0_key f0_touchedNow : Int32} {a1 a2 a3 a4 a5 a6 a7 a8 a9 a10 a11 a12 a13 a14 a15 a16 : Nat → Int32} {V : Nat → Int32} {T : Nat → Nat}
theorem po_rp28 {post : St2 → Prop} {J2 : Int32 → Int32 → Int32 → (Nat → Int32) → (Nat → Int32) → (Nat → Int32) → (Nat → Int32) → (Nat → Int32) → (Nat → Int32) → (Nat → Int32) → (Nat → Int32) → (Nat → Int32) → (Nat → Int32) → (Nat → Int32) → (Nat → Int32) → (Nat → Int32) → (Nat → Int32) → (Nat → Int32) → (Nat → Int32) → Prop} {l k B : Nat} {P : Nat → Prop} (hB : B < 16)
    (HJ : ∀ (n : Nat) (a1 a5 a6 a7 : Nat → Int32), po_tok f0_key n a1 a2 a3 a4 a5 a6 a7 V T → (∀ s, P s → a1 s = -1) → (∀ s, 4 * B ≤ s → s < 4 * B + 4 → a1 s = -1) → J2 (nI (k + 1)) (nI n) f0_touchedNow a1 a2 a3 a4 a5 a6 a7 a8 a9 a10 a11 a12 a13 a14 a15 a16) :
    ∀ (d i n : Nat) (a1 a5 a6 a7 : Nat → Int32), i + d = 4 * B + 4 → po_tok f0_key n a1 a2 a3 a4 a5 a6 a7 V T → (∀ s, P s → a1 s = -1) → (∀ s, 4 * B ≤ s → s < i → a1 s = -1) →
      wX_readPath_28 post J2 (nI l) (nI k) (nI B) f0_mapStashed f0_random f0_key f0_touchedNow (d + 1) (nI i) (nI n) a1 a2 a3 a4 a5 a6 a7 a8 a9 a10 a11 a12 a13 a14 a15 a16 := by
  intro d
  induction d with
  | zero =>
    intro i n a1 a5 a6 a7 hi ok hP hF
    exact pk_le (4 * B + 4) i (fun _ => nm_r (nI_1 k) (HJ n a1 a5 a6 a7 ok hP (fun s h1 h2 => hF s h1 (by omega)))) (fun z => absurd z (by omega)) (po_b4 B) rfl
  | succ d ih =>
    intro i n a1 a5 a6 a7 hi ok hP hF
    refine pk_le (4 * B + 4) i (fun z => absurd z (by omega)) (fun _ => ⟨pk_in i 64 (by omega), ?_⟩) (po_b4 B) rfl
    rw [nI_clamp (show i < 2 ^ 31 by omega)]
    refine br_c (fun e => nm_r (nI_1 i) (ih (i + 1) n a1 a5 a6 a7 (by omega) ok hP ?_)) (fun e => ?_)
    · intro s h1 h2
      by_cases c : s = i
      · rw [c]
        exact e
      · exact hF s h1 (by omega)
    · have hn : n < 16 := po_lt ok (s := i) (by omega) e
      refine pk_le 16 n (fun z => absurd z (by omega)) (fun _ => ?_)
      rw [nI_clamp (show n < 2 ^ 31 by omega)]
      refine ⟨pk_in i 64 (by omega), pk_in n 16 hn, nm_e ⟨pk_in i 64 (by omega), po_pad (by omega) ?_⟩⟩
      refine ⟨pk_in n 16 hn, nm_e ⟨pk_in i 64 (by omega), pk_in n 16 hn, nm_e ⟨pk_in i 64 (by omega), nm_e (nm_r (nI_1 n) (nm_r (nI_1 i) ?_))⟩⟩⟩
      refine ih (i + 1) (n + 1) _ _ _ _ (by omega) (po_take ok (by omega) e) ?_ ?_
      · intro s hs
        by_cases c : s = i
        · rw [c, pk_us]
        · rw [pk_un c]
          exact hP s hs
      · intro s h1 h2
        by_cases c : s = i
        · rw [c, pk_us]
        · rw [pk_un c]
          exact hF s h1 (by omega)
theorem po_rp2 {post : St2 → Prop} {l : Nat} (hl : l < 8) {t : Int32}
    (H : ∀ (n : Nat) (a1 a5 a6 a7 : Nat → Int32), po_tok f0_key n a1 a2 a3 a4 a5 a6 a7 V T → (∀ s, po_on l s → a1 s = -1) → post (nI n, f0_mapStashed, f0_random, f0_key, t + nI 4, a1, a2, a3, a4, a5, a6, a7, a8, a9, a10, a11, a12, a13, a14, a15, a16)) :
    ∀ (d k n : Nat) (a1 a5 a6 a7 : Nat → Int32), k + d = 4 → po_tok f0_key n a1 a2 a3 a4 a5 a6 a7 V T → (∀ s, (∃ j, j < k ∧ s / 4 = po_bk l j) → a1 s = -1) →
      wX_readPath_2 post (nI l) f0_mapStashed f0_random f0_key (d + 1) (nI k) (nI n) (t + nI k) a1 a2 a3 a4 a5 a6 a7 a8 a9 a10 a11 a12 a13 a14 a15 a16 := by
  intro d
  induction d with
  | zero =>
    intro k n a1 a5 a6 a7 hk ok hP
    have hk4 : k = 4 := by omega
    subst hk4
    refine pk_le 4 4 (fun _ => H n a1 a5 a6 a7 ok ?_) (fun z => absurd z (by omega))
    intro s ⟨j, hj, e⟩
    exact hP s ⟨j, by omega, e⟩
  | succ d ih =>
    intro k n a1 a5 a6 a7 hk ok hP
    have hB := po_bk_in l hl k (by omega)
    refine pk_le 4 k (fun z => absurd z (by omega)) (fun _ => po_bu hl (by omega) (nm_r (show t + nI k + 1 = t + nI (k + 1) by rw [Int32.add_assoc, nI_1]) (nm_r (pk_mul 4 _) ⟨4 + 1, ?_⟩)))
    refine po_rp28 (P := fun s => ∃ j, j < k ∧ s / 4 = po_bk l j) hB.2 ?_ 4 (4 * po_bk l k) n a1 a5 a6 a7 rfl ok hP ?_
    · intro n a1 a5 a6 a7 ok hP hF
      refine ih (k + 1) n a1 a5 a6 a7 (by omega) ok ?_
      intro s ⟨j, hj, e⟩
      by_cases c : j = k
      · rw [c] at e
        exact hF s (by omega) (by omega)
      · exact hP s ⟨j, by omega, e⟩
    · intro s h1 h2
      omega
theorem po_rp {post : St2 → Prop} {l n : Nat} (hl : l < 8) (ok : po_tok f0_key n a1 a2 a3 a4 a5 a6 a7 V T)
    (H : ∀ (n : Nat) (a1 a5 a6 a7 : Nat → Int32), po_tok f0_key n a1 a2 a3 a4 a5 a6 a7 V T → (∀ s, po_on l s → a1 s = -1) → post (nI n, f0_mapStashed, f0_random, f0_key, f0_touchedNow + nI 4, a1, a2, a3, a4, a5, a6, a7, a8, a9, a10, a11, a12, a13, a14, a15, a16)) :
    wpX_readPath post (nI n, f0_mapStashed, f0_random, f0_key, f0_touchedNow, a1, a2, a3, a4, a5, a6, a7, a8, a9, a10, a11, a12, a13, a14, a15, a16) (nI l) := by
  have h := po_rp2 (t := f0_touchedNow) hl H 4 0 n a1 a5 a6 a7 rfl ok (fun s h => by obtain ⟨j, hj, _⟩ := h; omega)
  rw [nI_0, Int32.add_zero] at h
  exact ⟨4 + 1, h⟩
theorem po_ft {post : Int32 → Prop} {n l k : Nat} (hn : n ≤ 16) (hl : l < 8) (hk : k < 4) (hT : ∀ i, i < n → ∃ t, t < 8 ∧ a7 i = nI t) (H0 : post (-1))
    (H1 : ∀ i t, i < n → t < 8 → a7 i = nI t → po_bk t k = po_bk l k → post (nI i)) : wpX_fitting post (nI n, f0_mapStashed, f0_random, f0_key, f0_touchedNow, a1, a2, a3, a4, a5, a6, a7, a8, a9, a10, a11, a12, a13, a14, a15, a16) (nI l) (nI k) := by
  have main : ∀ d i, i + d = n → wX_fitting_2 post (nI l) (nI k) (nI n) f0_mapStashed f0_random f0_key f0_touchedNow a1 a2 a3 a4 a5 a6 a7 a8 a9 a10 a11 a12 a13 a14 a15 a16 (d + 1) (nI i) := by
    intro d
    induction d with
    | zero =>
      intro i hi
      exact pk_le n i (fun _ => H0) (fun z => absurd z (by omega))
    | succ d ih =>
      intro i hi
      refine pk_le n i (fun _ => H0) (fun z => ⟨pk_in i 16 (by omega), ?_⟩)
      rw [nI_clamp (show i < 2 ^ 31 by omega)]
      obtain ⟨t, ht, et⟩ := hT i z
      rw [et]
      have b1 := po_bk_in t ht k hk
      have b2 := po_bk_in l hl k hk
      exact po_bu ht hk (po_bu hl hk (pk_eq (po_bk t k) (po_bk l k) (fun e => H1 i t z ht et e) (fun _ => nm_r (nI_1 i) (ih (i + 1) (by omega)))))
  exact ⟨n + 1, main n 0 (by omega)⟩
theorem po_stl {post : St2 → Prop} {q i s : Nat} (hq : q < 16) (hi : i < 16) (hs : s < 64)
    (H : post (nI q, f0_mapStashed, f0_random, f0_key, f0_touchedNow, upd a1 s (a5 i), upd a2 s (a6 i ^^^ po_pd f0_key (a4 (s / 4)) (nI s)), upd a3 s (a7 i), a4, upd a5 i (a5 q), upd a6 i (a6 q), upd a7 i (a7 q), a8, a9, a10, a11, a12, a13, a14, a15, a16)) :
    wpX_settle post (nI (q + 1), f0_mapStashed, f0_random, f0_key, f0_touchedNow, a1, a2, a3, a4, a5, a6, a7, a8, a9, a10, a11, a12, a13, a14, a15, a16) (nI i) (nI s) := by
  refine ⟨pk_in i 16 hi, ?_⟩
  rw [nI_clamp (show i < 2 ^ 31 by omega), nI_clamp (show s < 2 ^ 31 by omega)]
  refine ⟨pk_in s 64 hs, nm_e ⟨pk_in i 16 hi, po_pad hs ⟨pk_in s 64 hs, nm_e ⟨pk_in i 16 hi, pk_in s 64 hs, nm_e (nm_r (nI_pred q) ?_)⟩⟩⟩⟩
  rw [nI_clamp (show q < 2 ^ 31 by omega)]
  exact ⟨pk_in q 16 hq, pk_in i 16 hi, nm_e ⟨pk_in q 16 hq, pk_in i 16 hi, nm_e ⟨pk_in q 16 hq, pk_in i 16 hi, nm_e H⟩⟩⟩
theorem po_wp27 {post : St2 → Prop} {J2 : Int32 → Int32 → Int32 → Int32 → Int32 → Int32 → (Nat → Int32) → (Nat → Int32) → (Nat → Int32) → (Nat → Int32) → (Nat → Int32) → (Nat → Int32) → (Nat → Int32) → (Nat → Int32) → (Nat → Int32) → (Nat → Int32) → (Nat → Int32) → (Nat → Int32) → (Nat → Int32) → (Nat → Int32) → (Nat → Int32) → (Nat → Int32) → Prop} {l k B : Nat} {P : Nat → Prop} (hl : l < 8) (hk : k < 4) (hB : B < 16) (eB : B = po_bk l k)
    (HJ : ∀ (n : Nat) (r : Int32) (a1 a2 a3 a5 a6 a7 : Nat → Int32), po_tok f0_key n a1 a2 a3 a4 a5 a6 a7 V T → (∀ s, P s → s < 4 * B → a1 s = -1) → J2 (po_lv k) (nI n) f0_mapStashed r f0_key f0_touchedNow a1 a2 a3 a4 a5 a6 a7 a8 a9 a10 a11 a12 a13 a14 a15 a16) :
    ∀ (d i n : Nat) (r : Int32) (a1 a2 a3 a5 a6 a7 : Nat → Int32), i + d = 4 * B + 4 → 4 * B ≤ i → po_tok f0_key n a1 a2 a3 a4 a5 a6 a7 V T → (∀ s, P s → s < 4 * B → a1 s = -1) → (∀ s, i ≤ s → s < 4 * B + 4 → a1 s = -1) →
      wX_writePath_27 post J2 (nI l) (nI k) (nI B) (d + 1) (nI i) (nI n) f0_mapStashed r f0_key f0_touchedNow a1 a2 a3 a4 a5 a6 a7 a8 a9 a10 a11 a12 a13 a14 a15 a16 := by
  intro d
  induction d with
  | zero =>
    intro i n r a1 a2 a3 a5 a6 a7 hi hi2 ok hP hF
    exact pk_le (4 * B + 4) i (fun _ => nm_r (po_lv_s k) (HJ n r a1 a2 a3 a5 a6 a7 ok hP)) (fun z => absurd z (by omega)) (po_b4 B) rfl
  | succ d ih =>
    intro i n r a1 a2 a3 a5 a6 a7 hi hi2 ok hP hF
    have hn : n ≤ 16 := po_le ok
    have he : a1 i = -1 := hF i (Nat.le_refl i) (by omega)
    refine pk_le (4 * B + 4) i (fun z => absurd z (by omega)) (fun _ => ?_) (po_b4 B) rfl
    refine po_ft hn hl hk (fun j hj => po_tg ok hj) ?_ ?_
    · refine br_t rfl (po_nx2 (fun x r' => ⟨pk_in i 64 (by omega), ?_⟩))
      rw [nI_clamp (show i < 2 ^ 31 by omega)]
      refine nm_e (nm_r (nI_1 i) (ih (i + 1) n r' a1 (upd a2 i x) a3 a5 a6 a7 (by omega) (by omega) (po_chg (by decide) ok ?_) hP (fun s h1 h2 => hF s (by omega) h2)))
      intro s _ hs
      have hne : s ≠ i := fun c => hs (by rw [c]; exact he)
      show upd a2 i x s ^^^ po_pd f0_key (a4 (s / 4)) (nI s) = a2 s ^^^ po_pd f0_key (a4 (s / 4)) (nI s)
      rw [pk_un hne]
    · intro j t hj ht et eb
      obtain ⟨q, rfl⟩ : ∃ q, n = q + 1 := ⟨n - 1, by omega⟩
      refine br_f (po_nm (by omega)) (po_stl (by omega) (by omega) (by omega) (nm_r (nI_1 i) ?_))
      refine ih (i + 1) q r _ _ _ _ _ _ (by omega) (by omega) (po_settle (by decide) ok hj (by omega) he ?_ ?_ ?_) ?_ ?_
      · show upd a2 i (a6 j ^^^ po_pd f0_key (a4 (i / 4)) (nI i)) i ^^^ po_pd f0_key (a4 (i / 4)) (nI i) = a6 j
        rw [pk_us, po_xx]
      · intro s _ hne _
        show upd a2 i (a6 j ^^^ po_pd f0_key (a4 (i / 4)) (nI i)) s ^^^ po_pd f0_key (a4 (s / 4)) (nI s) = a2 s ^^^ po_pd f0_key (a4 (s / 4)) (nI s)
        rw [pk_un hne]
      · intro t' ht' e'
        have e2 : nI t = nI t' := by rw [← et, ← e']
        rw [nI_eq (by omega) (by omega)] at e2
        refine ⟨k, hk, ?_⟩
        rw [← e2, eb, ← eB]
        omega
      · intro s h1 h2
        rw [pk_un (by omega)]
        exact hP s h1 h2
      · intro s h1 h2
        rw [pk_un (by omega)]
        exact hF s (by omega) h2
theorem po_wp2 {post : St2 → Prop} {l : Nat} (hl : l < 8)
    (H : ∀ (n : Nat) (r : Int32) (a1 a2 a3 a4 a5 a6 a7 : Nat → Int32), po_tok f0_key n a1 a2 a3 a4 a5 a6 a7 V T → post (nI n, f0_mapStashed, r, f0_key, f0_touchedNow, a1, a2, a3, a4, a5, a6, a7, a8, a9, a10, a11, a12, a13, a14, a15, a16)) :
    ∀ (c n : Nat) (r : Int32) (a1 a2 a3 a4 a5 a6 a7 : Nat → Int32), c ≤ 4 → po_tok f0_key n a1 a2 a3 a4 a5 a6 a7 V T → (∀ s, (∃ j, j < c ∧ s / 4 = po_bk l j) → a1 s = -1) →
      wX_writePath_2 post (nI l) (c + 1) (po_lv c) (nI n) f0_mapStashed r f0_key f0_touchedNow a1 a2 a3 a4 a5 a6 a7 a8 a9 a10 a11 a12 a13 a14 a15 a16 := by
  intro c
  induction c with
  | zero =>
    intro n r a1 a2 a3 a4 a5 a6 a7 _ ok _
    exact br_t (by decide) (H n r a1 a2 a3 a4 a5 a6 a7 ok)
  | succ k ih =>
    intro n r a1 a2 a3 a4 a5 a6 a7 hk ok hP
    have hB := po_bk_in l hl k (by omega)
    have hBl := po_bk_lt l hl k (by omega)
    rw [show po_lv (k + 1) = nI k from rfl]
    refine br_f (nI_pos (by omega)) (po_bu hl (by omega) ⟨pk_in (po_bk l k) 16 hB.2, ?_⟩)
    rw [nI_clamp (show po_bk l k < 2 ^ 31 by omega)]
    refine ⟨pk_in (po_bk l k) 16 hB.2, nm_e (nm_r (pk_mul 4 _) ⟨4 + 1, ?_⟩)⟩
    refine po_wp27 (P := fun s => ∃ j, j < k ∧ s / 4 = po_bk l j) hl (by omega) hB.2 rfl ?_ 4 (4 * po_bk l k) n r a1 a2 a3 a5 a6 a7 rfl (Nat.le_refl _) (po_chg (by decide) ok ?_) ?_ ?_
    · intro n r a1 a2 a3 a5 a6 a7 ok hP
      refine ih n r a1 a2 a3 _ a5 a6 a7 (by omega) ok ?_
      intro s ⟨j, hj, e⟩
      have := hBl j hj
      exact hP s ⟨j, hj, e⟩ (by omega)
    · intro s _ hs
      have hne : s / 4 ≠ po_bk l k := fun e => hs (hP s ⟨k, by omega, e⟩)
      show a2 s ^^^ po_pd f0_key (upd a4 (po_bk l k) (a4 (po_bk l k) + 1) (s / 4)) (nI s) = a2 s ^^^ po_pd f0_key (a4 (s / 4)) (nI s)
      rw [pk_un hne]
    · intro s ⟨j, hj, e⟩ _
      exact hP s ⟨j, by omega, e⟩
    · intro s h1 h2
      exact hP s ⟨k, by omega, by omega⟩
theorem po_wp {post : St2 → Prop} {l n : Nat} (hl : l < 8) (ok : po_tok f0_key n a1 a2 a3 a4 a5 a6 a7 V T) (hE : ∀ s, po_on l s → a1 s = -1)
    (H : ∀ (n : Nat) (r : Int32) (a1 a2 a3 a4 a5 a6 a7 : Nat → Int32), po_tok f0_key n a1 a2 a3 a4 a5 a6 a7 V T → post (nI n, f0_mapStashed, r, f0_key, f0_touchedNow, a1, a2, a3, a4, a5, a6, a7, a8, a9, a10, a11, a12, a13, a14, a15, a16)) :
    wpX_writePath post (nI n, f0_mapStashed, f0_random, f0_key, f0_touchedNow, a1, a2, a3, a4, a5, a6, a7, a8, a9, a10, a11, a12, a13, a14, a15, a16) (nI l) :=
  ⟨4 + 1, po_wp2 hl H 4 n f0_random a1 a2 a3 a4 a5 a6 a7 (Nat.le_refl _) ok hE⟩
end
end
section
/-! ===== leafOf, access ===== -/
def po_u {α : Type} (f : Nat → α) (k : Nat) (v : α) : Nat → α := fun c => if c = k then v else f c
theorem po_us {α : Type} {f : Nat → α} {k : Nat} {v : α} : po_u f k v k = v := if_pos rfl
theorem po_un {α : Type} {f : Nat → α} {k c : Nat} {v : α} (h : c ≠ k) : po_u f k v c = f c := if_neg h
/-- the smaller store holds the leaves T -/
def po_mI (m : Nat) (a8 a9 a10 a11 a12 a13 a14 : Nat → Int32) (T : Nat → Nat) : Prop :=
  ∃ (V : Nat → Int32) (MT : Nat → Nat), po_mok m a8 a9 a10 a11 a12 a13 V MT ∧ (∀ w, w < 4 → a14 w = nI (MT w)) ∧ (∀ b, b < 16 → po_f (V (b / 4)) (b % 4) = nI (T b))
/-- the whole: the blocks hold V -/
def po_I (n m : Nat) (k : Int32) (a1 a2 a3 a4 a5 a6 a7 a8 a9 a10 a11 a12 a13 a14 : Nat → Int32) (V : Nat → Int32) : Prop :=
  ∃ T : Nat → Nat, po_tok k n a1 a2 a3 a4 a5 a6 a7 V T ∧ po_mI m a8 a9 a10 a11 a12 a13 a14 T
def po_wd (x : Int32) (j q : Nat) : Int32 := (x &&& (((7 : Int32) <<< (nI (3 * j) &&& 31)) ^^^ (-1))) ||| (nI q <<< (nI (3 * j) &&& 31))
section
variable {f0_stashed f0_mapStashed f0_random f0_key f0_touchedNow : Int32} {a1 a2 a3 a4 a5 a6 a7 a8 a9 a10 a11 a12 a13 a14 a15 a16 : Nat → Int32} {V : Nat → Int32} {T : Nat → Nat}
theorem po_mT {m b : Nat} (ok : po_mok m a8 a9 a10 a11 a12 a13 V T) (hb : b < 4) : T b < 4 := And.left ok b hb
theorem po_tT {n b : Nat} {k : Int32} (ok : po_tok k n a1 a2 a3 a4 a5 a6 a7 V T) (hb : b < 16) : T b < 8 := And.left ok b hb
theorem po_mput {m b q p : Nat} {MT T' : Nat → Nat} (hb : b < 16) (hq : q < 8) (hw : ∀ w, w < 4 → a14 w = nI (MT w)) (hf : ∀ b, b < 16 → po_f (V (b / 4)) (b % 4) = nI (T b))
    (hT : T' b = q) (hT' : ∀ c, c ≠ b → T' c = T c) (ok : po_mok m a8 a9 a10 a11 a12 a13 (po_u V (b / 4) (po_wd (V (b / 4)) (b % 4) q)) (po_u MT (b / 4) p)) :
    po_mI m a8 a9 a10 a11 a12 a13 (upd a14 (b / 4) (nI p)) T' := by
  refine ⟨_, _, ok, ?_, ?_⟩
  · intro w h
    by_cases c : w = b / 4
    · rw [c, pk_us, po_us]
    · rw [pk_un c, po_un c]
      exact hw w h
  · intro c hc
    by_cases e : c / 4 = b / 4
    · rw [e, po_us]
      unfold po_wd
      rw [po_f_put _ hq (by omega) (by omega)]
      by_cases e2 : b % 4 = c % 4
      · have : c = b := by omega
        rw [if_pos e2, this, hT]
      · rw [if_neg e2, ← e, hf c hc, hT' c (fun z => e2 (by rw [z]))]
    · rw [po_un e, hf c hc, hT' c (fun z => e (by rw [z]))]
theorem po_lf43b {post : Int32 → St2 → Prop} {x2 x6 sh : Int32} {w p m i0 : Nat} (hp : p < 4) (ok : po_mok m a8 a9 a10 a11 a12 a13 V T) (ou : ∀ j, j < m → a11 j = nI w → j = i0)
    (H : ∀ (m : Nat) (a8 a9 a10 a11 a12 a13 : Nat → Int32), po_mok m a8 a9 a10 a11 a12 a13 V T → post x6 (f0_stashed, nI m, f0_random, f0_key, f0_touchedNow, a1, a2, a3, a4, a5, a6, a7, a8, a9, a10, a11, a12, a13, a14, a15, a16)) :
    ∀ d i, i + d = m → i0 < i → wX_leafOf_43 post x2 (nI w) sh (nI p) f0_stashed (nI m) f0_random f0_key f0_touchedNow (d + 1) x6 (nI i) a1 a2 a3 a4 a5 a6 a7 a8 a9 a10 a11 a12 a13 a14 a15 a16 := by
  have hm : m ≤ 4 := po_le ok
  intro d
  induction d with
  | zero =>
    intro i hi _
    exact pk_le m i (fun _ => po_wm hp ok (fun m a8 a9 a10 a11 a12 a13 ok => H m a8 a9 a10 a11 a12 a13 ok)) (fun z => absurd z (by omega))
  | succ d ih =>
    intro i hi h
    refine pk_le m i (fun z => absurd z (by omega)) (fun z => ⟨pk_in i 4 (by omega), ?_⟩)
    rw [nI_clamp (show i < 2 ^ 31 by omega)]
    exact br_f (fun e => absurd (ou i z e) (by omega)) (nm_r (nI_1 i) (ih (i + 1) (by omega) (by omega)))
theorem po_lf43 {post : Int32 → St2 → Prop} {lf : Int32} {q w j p p' m i0 : Nat} {V' : Nat → Int32} {T' : Nat → Nat} (hw : w < 4) (hp : p < 4) (hq : q < 8) (ok : po_mok m a8 a9 a10 a11 a12 a13 V T) (hi0 : i0 < m) (o1 : a11 i0 = nI w) (o2 : a12 i0 = V w)
    (ou : ∀ j, j < m → a11 j = nI w → j = i0) (h14 : a14 w = nI p') (hlf : po_f (V w) j = lf) (ok' : po_mok m a8 a9 a10 a11 (upd a12 i0 (po_wd (V w) j q)) (upd a13 i0 (nI p')) V' T')
    (H : ∀ (m : Nat) (a8 a9 a10 a11 a12 a13 : Nat → Int32), po_mok m a8 a9 a10 a11 a12 a13 V' T' → post lf (f0_stashed, nI m, f0_random, f0_key, f0_touchedNow, a1, a2, a3, a4, a5, a6, a7, a8, a9, a10, a11, a12, a13, a14, a15, a16)) :
    ∀ c i, i + c = m → i ≤ i0 → wX_leafOf_43 post (nI q) (nI w) (nI (3 * j)) (nI p) f0_stashed (nI m) f0_random f0_key f0_touchedNow (c + 1) 0 (nI i) a1 a2 a3 a4 a5 a6 a7 a8 a9 a10 a11 a12 a13 a14 a15 a16 := by
  have hm : m ≤ 4 := po_le ok
  intro c
  induction c with
  | zero =>
    intro i hi h
    omega
  | succ c ih =>
    intro i hi h
    refine pk_le m i (fun z => absurd z (by omega)) (fun z => ⟨pk_in i 4 (by omega), ?_⟩)
    rw [nI_clamp (show i < 2 ^ 31 by omega)]
    by_cases e : i = i0
    · rw [e]
      refine br_t o1 ⟨pk_in i0 4 (by omega), nm_r o2 (nm_r hlf (br_f (po_nm (by omega)) ⟨pk_in i0 4 (by omega), nm_e ?_⟩))⟩
      unfold wX_leafOf_109
      rw [nI_clamp (show w < 2 ^ 31 by omega), nI_clamp (show i0 < 2 ^ 31 by omega)]
      exact ⟨pk_in w 4 hw, pk_in i0 4 (by omega), nm_r (congrArg (upd a13 i0) h14) (nm_r (nI_1 i0) (po_lf43b hp ok' ou H c (i0 + 1) (by omega) (by omega)))⟩
    · exact br_f (fun e' => e (ou i z e')) (nm_r (nI_1 i) (ih (i + 1) (by omega) (by omega)))
theorem po_lf {post : Int32 → St2 → Prop} {b q m : Nat} {T' : Nat → Nat} (hb : b < 16) (hq : q < 8) (I : po_mI m a8 a9 a10 a11 a12 a13 a14 T) (hT : T' b = q) (hT' : ∀ c, c ≠ b → T' c = T c)
    (H : ∀ (m : Nat) (r : Int32) (a8 a9 a10 a11 a12 a13 a14 : Nat → Int32), po_mI m a8 a9 a10 a11 a12 a13 a14 T' → post (nI (T b)) (f0_stashed, nI m, r, f0_key, f0_touchedNow, a1, a2, a3, a4, a5, a6, a7, a8, a9, a10, a11, a12, a13, a14, a15, a16)) :
    wpX_leafOf post (f0_stashed, nI m, f0_random, f0_key, f0_touchedNow, a1, a2, a3, a4, a5, a6, a7, a8, a9, a10, a11, a12, a13, a14, a15, a16) (nI b) (nI q) := by
  obtain ⟨V, MT, ok, hw, hf⟩ := I
  have hw4 : b / 4 < 4 := by omega
  refine nm_r (po_w b hb) (nm_r (po_sh b hb) ⟨pk_in (b / 4) 4 hw4, ?_⟩)
  rw [nI_clamp (show b / 4 < 2 ^ 31 by omega)]
  refine nm_r (hw (b / 4) hw4) (po_nx3 (fun x r => ?_))
  obtain ⟨p, hp', ep⟩ := pk_andE x (m := 3) 2 (by decide)
  refine ⟨pk_in (b / 4) 4 hw4, nm_r (congrArg (upd a14 (b / 4)) ep) (po_rm (po_mT ok hw4) ok (fun m1 b8 b11 b12 b13 ok1 hE => ?_))⟩
  obtain ⟨i0, hi0, o1, o2, o3, ou⟩ := po_find (by decide) ok1 hw4 (fun s _ h => hE s h)
  refine ⟨m1 + 1, ?_⟩
  have ok2 : po_mok m1 b8 a9 a10 b11 (upd b12 i0 (po_wd (V (b / 4)) (b % 4) q)) (upd b13 i0 (nI p)) (po_u V (b / 4) (po_wd (V (b / 4)) (b % 4) q)) (po_u MT (b / 4) p) :=
    po_set (by decide) ok1 hi0 hw4 o1 (by omega) po_us (fun c h => po_un h) po_us (fun c h => po_un h)
  exact po_lf43 hw4 (po_mT ok hw4) hq ok1 hi0 o1 o2 ou pk_us (hf b hb) ok2 (fun m2 c8 c9 c10 c11 c12 c13 ok3 => H m2 r c8 c9 c10 c11 c12 c13 _ (po_mput hb hq hw hf hT hT' ok3)) m1 0 (by omega) (by omega)
theorem po_ac35b {post : Int32 → St2 → Prop} {x2 x3 x4 x6 : Int32} {b l n i0 : Nat} (hl : l < 8) (ok : po_tok f0_key n a1 a2 a3 a4 a5 a6 a7 V T) (hE : ∀ s, po_on l s → a1 s = -1) (ou : ∀ j, j < n → a5 j = nI b → j = i0)
    (H : ∀ (n : Nat) (r : Int32) (a1 a2 a3 a4 a5 a6 a7 : Nat → Int32), po_tok f0_key n a1 a2 a3 a4 a5 a6 a7 V T → post x6 (nI n, f0_mapStashed, r, f0_key, f0_touchedNow, a1, a2, a3, a4, a5, a6, a7, a8, a9, a10, a11, a12, a13, a14, a15, a16)) :
    ∀ d i, i + d = n → i0 < i → wX_access_35 post (nI b) x2 x3 x4 (nI l) (nI n) f0_mapStashed f0_random f0_key f0_touchedNow (d + 1) x6 (nI i) a1 a2 a3 a4 a5 a6 a7 a8 a9 a10 a11 a12 a13 a14 a15 a16 := by
  have hn : n ≤ 16 := po_le ok
  intro d
  induction d with
  | zero =>
    intro i hi _
    exact pk_le n i (fun _ => po_wp hl ok hE (fun n r a1 a2 a3 a4 a5 a6 a7 ok => H n r a1 a2 a3 a4 a5 a6 a7 ok)) (fun z => absurd z (by omega))
  | succ d ih =>
    intro i hi h
    refine pk_le n i (fun z => absurd z (by omega)) (fun z => ⟨pk_in i 16 (by omega), ?_⟩)
    rw [nI_clamp (show i < 2 ^ 31 by omega)]
    exact br_f (fun e => absurd (ou i z e) (by omega)) (nm_r (nI_1 i) (ih (i + 1) (by omega) (by omega)))
theorem po_ac35 {post : Int32 → St2 → Prop} {x2 x3 v z : Int32} {b l q n i0 : Nat} {V' : Nat → Int32} {T' : Nat → Nat} (hl : l < 8) (hn : n ≤ 16) (hE : ∀ s, po_on l s → a1 s = -1) (hi0 : i0 < n) (o1 : a5 i0 = nI b) (o2 : a6 i0 = v)
    (ou : ∀ j, j < n → a5 j = nI b → j = i0) (hz0 : x2 = 0 → z = v) (hz1 : ¬ x2 = 0 → z = x3) (ok' : po_tok f0_key n a1 a2 a3 a4 a5 (upd a6 i0 z) (upd a7 i0 (nI q)) V' T')
    (H : ∀ (n : Nat) (r : Int32) (a1 a2 a3 a4 a5 a6 a7 : Nat → Int32), po_tok f0_key n a1 a2 a3 a4 a5 a6 a7 V' T' → post v (nI n, f0_mapStashed, r, f0_key, f0_touchedNow, a1, a2, a3, a4, a5, a6, a7, a8, a9, a10, a11, a12, a13, a14, a15, a16)) :
    ∀ c i, i + c = n → i ≤ i0 → wX_access_35 post (nI b) x2 x3 (nI q) (nI l) (nI n) f0_mapStashed f0_random f0_key f0_touchedNow (c + 1) 0 (nI i) a1 a2 a3 a4 a5 a6 a7 a8 a9 a10 a11 a12 a13 a14 a15 a16 := by
  intro c
  induction c with
  | zero =>
    intro i hi h
    omega
  | succ c ih =>
    intro i hi h
    refine pk_le n i (fun y => absurd y (by omega)) (fun y => ⟨pk_in i 16 (by omega), ?_⟩)
    rw [nI_clamp (show i < 2 ^ 31 by omega)]
    by_cases e : i = i0
    · rw [e]
      refine br_t o1 ⟨pk_in i0 16 (by omega), nm_r o2 (br_c (fun h0 => ?_) (fun h0 => ?_))⟩
      · rw [hz0 h0] at ok'
        unfold wX_access_80
        rw [nI_clamp (show i0 < 2 ^ 31 by omega)]
        exact ⟨pk_in i0 16 (by omega), nm_e ⟨pk_in i0 16 (by omega), nm_e (nm_r (nI_1 i0) (po_ac35b hl ok' hE ou H c (i0 + 1) (by omega) (by omega)))⟩⟩
      · rw [hz1 h0] at ok'
        unfold wX_access_80
        rw [nI_clamp (show i0 < 2 ^ 31 by omega)]
        exact ⟨pk_in i0 16 (by omega), nm_e ⟨pk_in i0 16 (by omega), nm_e (nm_r (nI_1 i0) (po_ac35b hl ok' hE ou H c (i0 + 1) (by omega) (by omega)))⟩⟩
    · exact br_f (fun e' => e (ou i y e')) (nm_r (nI_1 i) (ih (i + 1) (by omega) (by omega)))
theorem po_ac {post : Int32 → St2 → Prop} {b n m : Nat} {ch val : Int32} {V' : Nat → Int32} (hb : b < 16) (I : po_I n m f0_key a1 a2 a3 a4 a5 a6 a7 a8 a9 a10 a11 a12 a13 a14 V) (hV0 : ch = 0 → V' b = V b) (hV1 : ¬ ch = 0 → V' b = val) (hV : ∀ c, c ≠ b → V' c = V c)
    (H : ∀ (n m : Nat) (r : Int32) (a1 a2 a3 a4 a5 a6 a7 a8 a9 a10 a11 a12 a13 a14 : Nat → Int32), po_I n m f0_key a1 a2 a3 a4 a5 a6 a7 a8 a9 a10 a11 a12 a13 a14 V' → post (V b) (nI n, nI m, r, f0_key, 4, a1, a2, a3, a4, a5, a6, a7, a8, a9, a10, a11, a12, a13, a14, a15, a16)) :
    wpX_access post (nI n, nI m, f0_random, f0_key, f0_touchedNow, a1, a2, a3, a4, a5, a6, a7, a8, a9, a10, a11, a12, a13, a14, a15, a16) (nI b) ch val := by
  obtain ⟨T, ok, hM⟩ := I
  have hTb : T b < 8 := po_tT ok hb
  unfold wpX_access
  refine po_nx1 (fun x r => ?_)
  obtain ⟨q, hq, eq⟩ := pk_andE x (m := 7) 3 (by decide)
  refine nm_r eq ?_
  refine po_lf (T' := po_u T b q) hb (by omega) hM po_us (fun c h => po_un h) (fun m1 r1 b8 b9 b10 b11 b12 b13 b14 hM1 => ?_)
  refine po_rp hTb ok (fun n1 b1 b5 b6 b7 ok1 hE => ?_)
  rw [show (0 : Int32) + nI 4 = 4 from by decide]
  obtain ⟨i0, hi0, o1, o2, o3, ou⟩ := po_find (by decide) ok1 hb (fun s _ h => hE s h)
  refine ⟨n1 + 1, ?_⟩
  have ok2 : po_tok f0_key n1 b1 a2 a3 a4 b5 (upd b6 i0 (V' b)) (upd b7 i0 (nI q)) V' (po_u T b q) :=
    po_set (by decide) ok1 hi0 hb o1 (by omega) rfl hV po_us (fun c h => po_un h)
  exact po_ac35 hTb (po_le ok1) hE hi0 o1 o2 ou hV0 hV1 ok2 (fun n2 r2 c1 c2 c3 c4 c5 c6 c7 ok3 => H n2 m1 r2 c1 c2 c3 c4 c5 c6 c7 b8 b9 b10 b11 b12 b13 b14 ⟨_, ok3, hM1⟩) n1 0 (by omega) (by omega)
end
end
section
/-! ===== the walk prints access and what it calls twice: the same lemmas over the second copies (printed by copies.py) ===== -/
section
variable {f0_stashed f0_mapStashed f0_random f0_key f0_touchedNow : Int32} {a1 a2 a3 a4 a5 a6 a7 a8 a9 a10 a11 a12 a13 a14 a15 a16 : Nat → Int32} {V : Nat → Int32} {T : Nat → Nat}
theorem pc_nx1 {post : Int32 → St2 → Prop} (H : ∀ x r, post x (f0_stashed, f0_mapStashed, r, f0_key, f0_touchedNow, a1, a2, a3, a4, a5, a6, a7, a8, a9, a10, a11, a12, a13, a14, a15, a16)) : wpX_next_4 post (f0_stashed, f0_mapStashed, f0_random, f0_key, f0_touchedNow, a1, a2, a3, a4, a5, a6, a7, a8, a9, a10, a11, a12, a13, a14, a15, a16) := fun _ _ _ _ _ _ => H _ _
theorem pc_nx2 {post : Int32 → St2 → Prop} (H : ∀ x r, post x (f0_stashed, f0_mapStashed, r, f0_key, f0_touchedNow, a1, a2, a3, a4, a5, a6, a7, a8, a9, a10, a11, a12, a13, a14, a15, a16)) : wpX_next_6 post (f0_stashed, f0_mapStashed, f0_random, f0_key, f0_touchedNow, a1, a2, a3, a4, a5, a6, a7, a8, a9, a10, a11, a12, a13, a14, a15, a16) := fun _ _ _ _ _ _ => H _ _
theorem pc_nx3 {post : Int32 → St2 → Prop} (H : ∀ x r, post x (f0_stashed, f0_mapStashed, r, f0_key, f0_touchedNow, a1, a2, a3, a4, a5, a6, a7, a8, a9, a10, a11, a12, a13, a14, a15, a16)) : wpX_next_5 post (f0_stashed, f0_mapStashed, f0_random, f0_key, f0_touchedNow, a1, a2, a3, a4, a5, a6, a7, a8, a9, a10, a11, a12, a13, a14, a15, a16) := fun _ _ _ _ _ _ => H _ _
theorem pc_rm18 {post : St2 → Prop} {J2 : Int32 → Int32 → (Nat → Int32) → (Nat → Int32) → (Nat → Int32) → (Nat → Int32) → (Nat → Int32) → (Nat → Int32) → (Nat → Int32) → (Nat → Int32) → (Nat → Int32) → (Nat → Int32) → (Nat → Int32) → (Nat → Int32) → (Nat → Int32) → (Nat → Int32) → (Nat → Int32) → (Nat → Int32) → Prop} {l k B : Nat} {P : Nat → Prop} (hB : B < 8)
    (HJ : ∀ (m : Nat) (a8 a11 a12 a13 : Nat → Int32), po_mok m a8 a9 a10 a11 a12 a13 V T → (∀ s, P s → a8 s = -1) → (∀ s, 2 * B ≤ s → s < 2 * B + 2 → a8 s = -1) → J2 (nI (k + 1)) (nI m) a1 a2 a3 a4 a5 a6 a7 a8 a9 a10 a11 a12 a13 a14 a15 a16) :
    ∀ (d i m : Nat) (a8 a11 a12 a13 : Nat → Int32), i + d = 2 * B + 2 → po_mok m a8 a9 a10 a11 a12 a13 V T → (∀ s, P s → a8 s = -1) → (∀ s, 2 * B ≤ s → s < i → a8 s = -1) →
      wX_readMapPath_2_18 post J2 (nI l) (nI k) (nI B) f0_stashed f0_random f0_key f0_touchedNow (d + 1) (nI i) (nI m) a1 a2 a3 a4 a5 a6 a7 a8 a9 a10 a11 a12 a13 a14 a15 a16 := by
  intro d
  induction d with
  | zero =>
    intro i m a8 a11 a12 a13 hi ok hP hF
    exact pk_le (2 * B + 2) i (fun _ => nm_r (nI_1 k) (HJ m a8 a11 a12 a13 ok hP (fun s h1 h2 => hF s h1 (by omega)))) (fun z => absurd z (by omega)) (po_b2 B) rfl
  | succ d ih =>
    intro i m a8 a11 a12 a13 hi ok hP hF
    refine pk_le (2 * B + 2) i (fun z => absurd z (by omega)) (fun _ => ⟨pk_in i 16 (by omega), ?_⟩) (po_b2 B) rfl
    rw [nI_clamp (show i < 2 ^ 31 by omega)]
    refine br_c (fun e => nm_r (nI_1 i) (ih (i + 1) m a8 a11 a12 a13 (by omega) ok hP ?_)) (fun e => ?_)
    · intro s h1 h2
      by_cases c : s = i
      · rw [c]
        exact e
      · exact hF s h1 (by omega)
    · have hm : m < 4 := po_lt ok (s := i) (by omega) e
      refine pk_le 4 m (fun z => absurd z (by omega)) (fun _ => ?_)
      rw [nI_clamp (show m < 2 ^ 31 by omega)]
      refine ⟨pk_in i 16 (by omega), pk_in m 4 hm, nm_e ⟨pk_in i 16 (by omega), pk_in m 4 hm, nm_e ⟨pk_in i 16 (by omega), pk_in m 4 hm, nm_e ⟨pk_in i 16 (by omega), nm_e (nm_r (nI_1 m) (nm_r (nI_1 i) ?_))⟩⟩⟩⟩
      refine ih (i + 1) (m + 1) _ _ _ _ (by omega) (po_take ok (by omega) e) ?_ ?_
      · intro s hs
        by_cases c : s = i
        · rw [c, pk_us]
        · rw [pk_un c]
          exact hP s hs
      · intro s h1 h2
        by_cases c : s = i
        · rw [c, pk_us]
        · rw [pk_un c]
          exact hF s h1 (by omega)
theorem pc_rm2 {post : St2 → Prop} {l : Nat} (hl : l < 4)
    (H : ∀ (m : Nat) (a8 a11 a12 a13 : Nat → Int32), po_mok m a8 a9 a10 a11 a12 a13 V T → (∀ s, po_mon l s → a8 s = -1) → post (f0_stashed, nI m, f0_random, f0_key, f0_touchedNow, a1, a2, a3, a4, a5, a6, a7, a8, a9, a10, a11, a12, a13, a14, a15, a16)) :
    ∀ (d k m : Nat) (a8 a11 a12 a13 : Nat → Int32), k + d = 3 → po_mok m a8 a9 a10 a11 a12 a13 V T → (∀ s, (∃ j, j < k ∧ s / 2 = po_mbk l j) → a8 s = -1) →
      wX_readMapPath_2_2 post (nI l) f0_stashed f0_random f0_key f0_touchedNow (d + 1) (nI k) (nI m) a1 a2 a3 a4 a5 a6 a7 a8 a9 a10 a11 a12 a13 a14 a15 a16 := by
  intro d
  induction d with
  | zero =>
    intro k m a8 a11 a12 a13 hk ok hP
    refine pk_le 3 k (fun _ => H m a8 a11 a12 a13 ok ?_) (fun z => absurd z (by omega))
    intro s ⟨j, hj, e⟩
    exact hP s ⟨j, by omega, e⟩
  | succ d ih =>
    intro k m a8 a11 a12 a13 hk ok hP
    have hB := po_mbk_in l hl k (by omega)
    refine pk_le 3 k (fun z => absurd z (by omega)) (fun _ => po_mb hl (by omega) (nm_r (pk_mul 2 _) ⟨2 + 1, ?_⟩))
    refine pc_rm18 (P := fun s => ∃ j, j < k ∧ s / 2 = po_mbk l j) hB.2 ?_ 2 (2 * po_mbk l k) m a8 a11 a12 a13 rfl ok hP ?_
    · intro m a8 a11 a12 a13 ok hP hF
      refine ih (k + 1) m a8 a11 a12 a13 (by omega) ok ?_
      intro s ⟨j, hj, e⟩
      by_cases c : j = k
      · rw [c] at e
        exact hF s (by omega) (by omega)
      · exact hP s ⟨j, by omega, e⟩
    · intro s h1 h2
      omega
theorem pc_rm {post : St2 → Prop} {l m : Nat} (hl : l < 4) (ok : po_mok m a8 a9 a10 a11 a12 a13 V T)
    (H : ∀ (m : Nat) (a8 a11 a12 a13 : Nat → Int32), po_mok m a8 a9 a10 a11 a12 a13 V T → (∀ s, po_mon l s → a8 s = -1) → post (f0_stashed, nI m, f0_random, f0_key, f0_touchedNow, a1, a2, a3, a4, a5, a6, a7, a8, a9, a10, a11, a12, a13, a14, a15, a16)) :
    wpX_readMapPath_2 post (f0_stashed, nI m, f0_random, f0_key, f0_touchedNow, a1, a2, a3, a4, a5, a6, a7, a8, a9, a10, a11, a12, a13, a14, a15, a16) (nI l) :=
  ⟨3 + 1, pc_rm2 hl H 3 0 m a8 a11 a12 a13 rfl ok (fun s h => by obtain ⟨j, hj, _⟩ := h; omega)⟩
theorem pc_wm17 {post : St2 → Prop} {J2 : Int32 → Int32 → (Nat → Int32) → (Nat → Int32) → (Nat → Int32) → (Nat → Int32) → (Nat → Int32) → (Nat → Int32) → (Nat → Int32) → (Nat → Int32) → (Nat → Int32) → (Nat → Int32) → (Nat → Int32) → (Nat → Int32) → (Nat → Int32) → (Nat → Int32) → (Nat → Int32) → (Nat → Int32) → Prop} {l k B : Nat} (hl : l < 4) (hk : k < 3) (hB : B < 8) (eB : B = po_mbk l k)
    (HJ : ∀ (m : Nat) (a8 a9 a10 a11 a12 a13 : Nat → Int32), po_mok m a8 a9 a10 a11 a12 a13 V T → J2 (po_lv k) (nI m) a1 a2 a3 a4 a5 a6 a7 a8 a9 a10 a11 a12 a13 a14 a15 a16) :
    ∀ (d i m : Nat) (a8 a9 a10 a11 a12 a13 : Nat → Int32), i + d = 2 * B + 2 → 2 * B ≤ i → po_mok m a8 a9 a10 a11 a12 a13 V T →
      wX_writeMapPath_2_17 post J2 (nI l) (nI k) (nI B) f0_stashed f0_random f0_key f0_touchedNow (d + 1) (nI i) (nI m) a1 a2 a3 a4 a5 a6 a7 a8 a9 a10 a11 a12 a13 a14 a15 a16 := by
  intro d
  induction d with
  | zero =>
    intro i m a8 a9 a10 a11 a12 a13 hi hi2 ok
    exact pk_le (2 * B + 2) i (fun _ => nm_r (po_lv_s k) (HJ m a8 a9 a10 a11 a12 a13 ok)) (fun z => absurd z (by omega)) (po_b2 B) rfl
  | succ d ih =>
    intro i m a8 a9 a10 a11 a12 a13 hi hi2 ok
    have hm : m ≤ 4 := po_le ok
    refine pk_le (2 * B + 2) i (fun z => absurd z (by omega)) (fun _ => ?_) (po_b2 B) rfl
    refine po_mf hm hl hk (fun j hj => po_tg ok hj) ?_ ?_
    · refine ⟨pk_in i 16 (by omega), ?_⟩
      rw [nI_clamp (show i < 2 ^ 31 by omega)]
      exact br_c (fun e => br_t rfl (nm_r (nI_1 i) (ih (i + 1) m a8 a9 a10 a11 a12 a13 (by omega) (by omega) ok))) (fun e => nm_r (nI_1 i) (ih (i + 1) m a8 a9 a10 a11 a12 a13 (by omega) (by omega) ok))
    · intro j t hj ht et eb
      obtain ⟨q, rfl⟩ : ∃ q, m = q + 1 := ⟨m - 1, by omega⟩
      refine ⟨pk_in i 16 (by omega), ?_⟩
      rw [nI_clamp (show i < 2 ^ 31 by omega)]
      refine br_c (fun e => br_f (po_nm (by omega)) (nm_r (nI_pred q) ?_)) (fun e => nm_r (nI_1 i) (ih (i + 1) (q + 1) a8 a9 a10 a11 a12 a13 (by omega) (by omega) ok))
      rw [nI_clamp (show j < 2 ^ 31 by omega), nI_clamp (show q < 2 ^ 31 by omega)]
      refine ⟨pk_in j 4 (by omega), pk_in i 16 (by omega), nm_e ⟨pk_in j 4 (by omega), pk_in i 16 (by omega), nm_e ⟨pk_in j 4 (by omega), pk_in i 16 (by omega), nm_e ⟨pk_in q 4 (by omega), pk_in j 4 (by omega), nm_e ⟨pk_in q 4 (by omega), pk_in j 4 (by omega), nm_e ⟨pk_in q 4 (by omega), pk_in j 4 (by omega), nm_e (nm_r (nI_1 i) ?_)⟩⟩⟩⟩⟩⟩
      refine ih (i + 1) q _ _ _ _ _ _ (by omega) (by omega) (po_settle (by decide) ok hj (by omega) e pk_us (fun s _ hne _ => pk_un hne) ?_)
      intro t' ht' e'
      have e2 : nI t = nI t' := by rw [← et, ← e']
      rw [nI_eq (by omega) (by omega)] at e2
      refine ⟨k, hk, ?_⟩
      rw [← e2, eb, ← eB]
      omega
theorem pc_wm2 {post : St2 → Prop} {l : Nat} (hl : l < 4)
    (H : ∀ (m : Nat) (a8 a9 a10 a11 a12 a13 : Nat → Int32), po_mok m a8 a9 a10 a11 a12 a13 V T → post (f0_stashed, nI m, f0_random, f0_key, f0_touchedNow, a1, a2, a3, a4, a5, a6, a7, a8, a9, a10, a11, a12, a13, a14, a15, a16)) :
    ∀ (c m : Nat) (a8 a9 a10 a11 a12 a13 : Nat → Int32), c ≤ 3 → po_mok m a8 a9 a10 a11 a12 a13 V T →
      wX_writeMapPath_2_2 post (nI l) f0_stashed f0_random f0_key f0_touchedNow (c + 1) (po_lv c) (nI m) a1 a2 a3 a4 a5 a6 a7 a8 a9 a10 a11 a12 a13 a14 a15 a16 := by
  intro c
  induction c with
  | zero =>
    intro m a8 a9 a10 a11 a12 a13 _ ok
    exact br_t (by decide) (H m a8 a9 a10 a11 a12 a13 ok)
  | succ k ih =>
    intro m a8 a9 a10 a11 a12 a13 hk ok
    have hB := po_mbk_in l hl k (by omega)
    rw [show po_lv (k + 1) = nI k from rfl]
    refine br_f (nI_pos (by omega)) (po_mb hl (by omega) (nm_r (pk_mul 2 _) ⟨2 + 1, ?_⟩))
    refine pc_wm17 hl (by omega) hB.2 rfl ?_ 2 (2 * po_mbk l k) m a8 a9 a10 a11 a12 a13 rfl (Nat.le_refl _) ok
    intro m a8 a9 a10 a11 a12 a13 ok
    exact ih m a8 a9 a10 a11 a12 a13 (by omega) ok
theorem pc_wm {post : St2 → Prop} {l m : Nat} (hl : l < 4) (ok : po_mok m a8 a9 a10 a11 a12 a13 V T)
    (H : ∀ (m : Nat) (a8 a9 a10 a11 a12 a13 : Nat → Int32), po_mok m a8 a9 a10 a11 a12 a13 V T → post (f0_stashed, nI m, f0_random, f0_key, f0_touchedNow, a1, a2, a3, a4, a5, a6, a7, a8, a9, a10, a11, a12, a13, a14, a15, a16)) :
    wpX_writeMapPath_2 post (f0_stashed, nI m, f0_random, f0_key, f0_touchedNow, a1, a2, a3, a4, a5, a6, a7, a8, a9, a10, a11, a12, a13, a14, a15, a16) (nI l) :=
  ⟨3 + 1, pc_wm2 hl H 3 m a8 a9 a10 a11 a12 a13 (Nat.le_refl _) ok⟩
theorem pc_rp28 {post : St2 → Prop} {J2 : Int32 → Int32 → Int32 → (Nat → Int32) → (Nat → Int32) → (Nat → Int32) → (Nat → Int32) → (Nat → Int32) → (Nat → Int32) → (Nat → Int32) → (Nat → Int32) → (Nat → Int32) → (Nat → Int32) → (Nat → Int32) → (Nat → Int32) → (Nat → Int32) → (Nat → Int32) → (Nat → Int32) → (Nat → Int32) → Prop} {l k B : Nat} {P : Nat → Prop} (hB : B < 16)
    (HJ : ∀ (n : Nat) (a1 a5 a6 a7 : Nat → Int32), po_tok f0_key n a1 a2 a3 a4 a5 a6 a7 V T → (∀ s, P s → a1 s = -1) → (∀ s, 4 * B ≤ s → s < 4 * B + 4 → a1 s = -1) → J2 (nI (k + 1)) (nI n) f0_touchedNow a1 a2 a3 a4 a5 a6 a7 a8 a9 a10 a11 a12 a13 a14 a15 a16) :
    ∀ (d i n : Nat) (a1 a5 a6 a7 : Nat → Int32), i + d = 4 * B + 4 → po_tok f0_key n a1 a2 a3 a4 a5 a6 a7 V T → (∀ s, P s → a1 s = -1) → (∀ s, 4 * B ≤ s → s < i → a1 s = -1) →
      wX_readPath_2_28 post J2 (nI l) (nI k) (nI B) f0_mapStashed f0_random f0_key f0_touchedNow (d + 1) (nI i) (nI n) a1 a2 a3 a4 a5 a6 a7 a8 a9 a10 a11 a12 a13 a14 a15 a16 := by
  intro d
  induction d with
  | zero =>
    intro i n a1 a5 a6 a7 hi ok hP hF
    exact pk_le (4 * B + 4) i (fun _ => nm_r (nI_1 k) (HJ n a1 a5 a6 a7 ok hP (fun s h1 h2 => hF s h1 (by omega)))) (fun z => absurd z (by omega)) (po_b4 B) rfl
  | succ d ih =>
    intro i n a1 a5 a6 a7 hi ok hP hF
    refine pk_le (4 * B + 4) i (fun z => absurd z (by omega)) (fun _ => ⟨pk_in i 64 (by omega), ?_⟩) (po_b4 B) rfl
    rw [nI_clamp (show i < 2 ^ 31 by omega)]
    refine br_c (fun e => nm_r (nI_1 i) (ih (i + 1) n a1 a5 a6 a7 (by omega) ok hP ?_)) (fun e => ?_)
    · intro s h1 h2
      by_cases c : s = i
      · rw [c]
        exact e
      · exact hF s h1 (by omega)
    · have hn : n < 16 := po_lt ok (s := i) (by omega) e
      refine pk_le 16 n (fun z => absurd z (by omega)) (fun _ => ?_)
      rw [nI_clamp (show n < 2 ^ 31 by omega)]
      refine ⟨pk_in i 64 (by omega), pk_in n 16 hn, nm_e ⟨pk_in i 64 (by omega), po_pad (by omega) ?_⟩⟩
      refine ⟨pk_in n 16 hn, nm_e ⟨pk_in i 64 (by omega), pk_in n 16 hn, nm_e ⟨pk_in i 64 (by omega), nm_e (nm_r (nI_1 n) (nm_r (nI_1 i) ?_))⟩⟩⟩
      refine ih (i + 1) (n + 1) _ _ _ _ (by omega) (po_take ok (by omega) e) ?_ ?_
      · intro s hs
        by_cases c : s = i
        · rw [c, pk_us]
        · rw [pk_un c]
          exact hP s hs
      · intro s h1 h2
        by_cases c : s = i
        · rw [c, pk_us]
        · rw [pk_un c]
          exact hF s h1 (by omega)
theorem pc_rp2 {post : St2 → Prop} {l : Nat} (hl : l < 8) {t : Int32}
    (H : ∀ (n : Nat) (a1 a5 a6 a7 : Nat → Int32), po_tok f0_key n a1 a2 a3 a4 a5 a6 a7 V T → (∀ s, po_on l s → a1 s = -1) → post (nI n, f0_mapStashed, f0_random, f0_key, t + nI 4, a1, a2, a3, a4, a5, a6, a7, a8, a9, a10, a11, a12, a13, a14, a15, a16)) :
    ∀ (d k n : Nat) (a1 a5 a6 a7 : Nat → Int32), k + d = 4 → po_tok f0_key n a1 a2 a3 a4 a5 a6 a7 V T → (∀ s, (∃ j, j < k ∧ s / 4 = po_bk l j) → a1 s = -1) →
      wX_readPath_2_2 post (nI l) f0_mapStashed f0_random f0_key (d + 1) (nI k) (nI n) (t + nI k) a1 a2 a3 a4 a5 a6 a7 a8 a9 a10 a11 a12 a13 a14 a15 a16 := by
  intro d
  induction d with
  | zero =>
    intro k n a1 a5 a6 a7 hk ok hP
    have hk4 : k = 4 := by omega
    subst hk4
    refine pk_le 4 4 (fun _ => H n a1 a5 a6 a7 ok ?_) (fun z => absurd z (by omega))
    intro s ⟨j, hj, e⟩
    exact hP s ⟨j, by omega, e⟩
  | succ d ih =>
    intro k n a1 a5 a6 a7 hk ok hP
    have hB := po_bk_in l hl k (by omega)
    refine pk_le 4 k (fun z => absurd z (by omega)) (fun _ => po_bu hl (by omega) (nm_r (show t + nI k + 1 = t + nI (k + 1) by rw [Int32.add_assoc, nI_1]) (nm_r (pk_mul 4 _) ⟨4 + 1, ?_⟩)))
    refine pc_rp28 (P := fun s => ∃ j, j < k ∧ s / 4 = po_bk l j) hB.2 ?_ 4 (4 * po_bk l k) n a1 a5 a6 a7 rfl ok hP ?_
    · intro n a1 a5 a6 a7 ok hP hF
      refine ih (k + 1) n a1 a5 a6 a7 (by omega) ok ?_
      intro s ⟨j, hj, e⟩
      by_cases c : j = k
      · rw [c] at e
        exact hF s (by omega) (by omega)
      · exact hP s ⟨j, by omega, e⟩
    · intro s h1 h2
      omega
theorem pc_rp {post : St2 → Prop} {l n : Nat} (hl : l < 8) (ok : po_tok f0_key n a1 a2 a3 a4 a5 a6 a7 V T)
    (H : ∀ (n : Nat) (a1 a5 a6 a7 : Nat → Int32), po_tok f0_key n a1 a2 a3 a4 a5 a6 a7 V T → (∀ s, po_on l s → a1 s = -1) → post (nI n, f0_mapStashed, f0_random, f0_key, f0_touchedNow + nI 4, a1, a2, a3, a4, a5, a6, a7, a8, a9, a10, a11, a12, a13, a14, a15, a16)) :
    wpX_readPath_2 post (nI n, f0_mapStashed, f0_random, f0_key, f0_touchedNow, a1, a2, a3, a4, a5, a6, a7, a8, a9, a10, a11, a12, a13, a14, a15, a16) (nI l) := by
  have h := pc_rp2 (t := f0_touchedNow) hl H 4 0 n a1 a5 a6 a7 rfl ok (fun s h => by obtain ⟨j, hj, _⟩ := h; omega)
  rw [nI_0, Int32.add_zero] at h
  exact ⟨4 + 1, h⟩
theorem pc_stl {post : St2 → Prop} {q i s : Nat} (hq : q < 16) (hi : i < 16) (hs : s < 64)
    (H : post (nI q, f0_mapStashed, f0_random, f0_key, f0_touchedNow, upd a1 s (a5 i), upd a2 s (a6 i ^^^ po_pd f0_key (a4 (s / 4)) (nI s)), upd a3 s (a7 i), a4, upd a5 i (a5 q), upd a6 i (a6 q), upd a7 i (a7 q), a8, a9, a10, a11, a12, a13, a14, a15, a16)) :
    wpX_settle_2 post (nI (q + 1), f0_mapStashed, f0_random, f0_key, f0_touchedNow, a1, a2, a3, a4, a5, a6, a7, a8, a9, a10, a11, a12, a13, a14, a15, a16) (nI i) (nI s) := by
  refine ⟨pk_in i 16 hi, ?_⟩
  rw [nI_clamp (show i < 2 ^ 31 by omega), nI_clamp (show s < 2 ^ 31 by omega)]
  refine ⟨pk_in s 64 hs, nm_e ⟨pk_in i 16 hi, po_pad hs ⟨pk_in s 64 hs, nm_e ⟨pk_in i 16 hi, pk_in s 64 hs, nm_e (nm_r (nI_pred q) ?_)⟩⟩⟩⟩
  rw [nI_clamp (show q < 2 ^ 31 by omega)]
  exact ⟨pk_in q 16 hq, pk_in i 16 hi, nm_e ⟨pk_in q 16 hq, pk_in i 16 hi, nm_e ⟨pk_in q 16 hq, pk_in i 16 hi, nm_e H⟩⟩⟩
theorem pc_wp27 {post : St2 → Prop} {J2 : Int32 → Int32 → Int32 → Int32 → Int32 → Int32 → (Nat → Int32) → (Nat → Int32) → (Nat → Int32) → (Nat → Int32) → (Nat → Int32) → (Nat → Int32) → (Nat → Int32) → (Nat → Int32) → (Nat → Int32) → (Nat → Int32) → (Nat → Int32) → (Nat → Int32) → (Nat → Int32) → (Nat → Int32) → (Nat → Int32) → (Nat → Int32) → Prop} {l k B : Nat} {P : Nat → Prop} (hl : l < 8) (hk : k < 4) (hB : B < 16) (eB : B = po_bk l k)
    (HJ : ∀ (n : Nat) (r : Int32) (a1 a2 a3 a5 a6 a7 : Nat → Int32), po_tok f0_key n a1 a2 a3 a4 a5 a6 a7 V T → (∀ s, P s → s < 4 * B → a1 s = -1) → J2 (po_lv k) (nI n) f0_mapStashed r f0_key f0_touchedNow a1 a2 a3 a4 a5 a6 a7 a8 a9 a10 a11 a12 a13 a14 a15 a16) :
    ∀ (d i n : Nat) (r : Int32) (a1 a2 a3 a5 a6 a7 : Nat → Int32), i + d = 4 * B + 4 → 4 * B ≤ i → po_tok f0_key n a1 a2 a3 a4 a5 a6 a7 V T → (∀ s, P s → s < 4 * B → a1 s = -1) → (∀ s, i ≤ s → s < 4 * B + 4 → a1 s = -1) →
      wX_writePath_2_27 post J2 (nI l) (nI k) (nI B) (d + 1) (nI i) (nI n) f0_mapStashed r f0_key f0_touchedNow a1 a2 a3 a4 a5 a6 a7 a8 a9 a10 a11 a12 a13 a14 a15 a16 := by
  intro d
  induction d with
  | zero =>
    intro i n r a1 a2 a3 a5 a6 a7 hi hi2 ok hP hF
    exact pk_le (4 * B + 4) i (fun _ => nm_r (po_lv_s k) (HJ n r a1 a2 a3 a5 a6 a7 ok hP)) (fun z => absurd z (by omega)) (po_b4 B) rfl
  | succ d ih =>
    intro i n r a1 a2 a3 a5 a6 a7 hi hi2 ok hP hF
    have hn : n ≤ 16 := po_le ok
    have he : a1 i = -1 := hF i (Nat.le_refl i) (by omega)
    refine pk_le (4 * B + 4) i (fun z => absurd z (by omega)) (fun _ => ?_) (po_b4 B) rfl
    refine po_ft hn hl hk (fun j hj => po_tg ok hj) ?_ ?_
    · refine br_t rfl (pc_nx2 (fun x r' => ⟨pk_in i 64 (by omega), ?_⟩))
      rw [nI_clamp (show i < 2 ^ 31 by omega)]
      refine nm_e (nm_r (nI_1 i) (ih (i + 1) n r' a1 (upd a2 i x) a3 a5 a6 a7 (by omega) (by omega) (po_chg (by decide) ok ?_) hP (fun s h1 h2 => hF s (by omega) h2)))
      intro s _ hs
      have hne : s ≠ i := fun c => hs (by rw [c]; exact he)
      show upd a2 i x s ^^^ po_pd f0_key (a4 (s / 4)) (nI s) = a2 s ^^^ po_pd f0_key (a4 (s / 4)) (nI s)
      rw [pk_un hne]
    · intro j t hj ht et eb
      obtain ⟨q, rfl⟩ : ∃ q, n = q + 1 := ⟨n - 1, by omega⟩
      refine br_f (po_nm (by omega)) (pc_stl (by omega) (by omega) (by omega) (nm_r (nI_1 i) ?_))
      refine ih (i + 1) q r _ _ _ _ _ _ (by omega) (by omega) (po_settle (by decide) ok hj (by omega) he ?_ ?_ ?_) ?_ ?_
      · show upd a2 i (a6 j ^^^ po_pd f0_key (a4 (i / 4)) (nI i)) i ^^^ po_pd f0_key (a4 (i / 4)) (nI i) = a6 j
        rw [pk_us, po_xx]
      · intro s _ hne _
        show upd a2 i (a6 j ^^^ po_pd f0_key (a4 (i / 4)) (nI i)) s ^^^ po_pd f0_key (a4 (s / 4)) (nI s) = a2 s ^^^ po_pd f0_key (a4 (s / 4)) (nI s)
        rw [pk_un hne]
      · intro t' ht' e'
        have e2 : nI t = nI t' := by rw [← et, ← e']
        rw [nI_eq (by omega) (by omega)] at e2
        refine ⟨k, hk, ?_⟩
        rw [← e2, eb, ← eB]
        omega
      · intro s h1 h2
        rw [pk_un (by omega)]
        exact hP s h1 h2
      · intro s h1 h2
        rw [pk_un (by omega)]
        exact hF s (by omega) h2
theorem pc_wp2 {post : St2 → Prop} {l : Nat} (hl : l < 8)
    (H : ∀ (n : Nat) (r : Int32) (a1 a2 a3 a4 a5 a6 a7 : Nat → Int32), po_tok f0_key n a1 a2 a3 a4 a5 a6 a7 V T → post (nI n, f0_mapStashed, r, f0_key, f0_touchedNow, a1, a2, a3, a4, a5, a6, a7, a8, a9, a10, a11, a12, a13, a14, a15, a16)) :
    ∀ (c n : Nat) (r : Int32) (a1 a2 a3 a4 a5 a6 a7 : Nat → Int32), c ≤ 4 → po_tok f0_key n a1 a2 a3 a4 a5 a6 a7 V T → (∀ s, (∃ j, j < c ∧ s / 4 = po_bk l j) → a1 s = -1) →
      wX_writePath_2_2 post (nI l) (c + 1) (po_lv c) (nI n) f0_mapStashed r f0_key f0_touchedNow a1 a2 a3 a4 a5 a6 a7 a8 a9 a10 a11 a12 a13 a14 a15 a16 := by
  intro c
  induction c with
  | zero =>
    intro n r a1 a2 a3 a4 a5 a6 a7 _ ok _
    exact br_t (by decide) (H n r a1 a2 a3 a4 a5 a6 a7 ok)
  | succ k ih =>
    intro n r a1 a2 a3 a4 a5 a6 a7 hk ok hP
    have hB := po_bk_in l hl k (by omega)
    have hBl := po_bk_lt l hl k (by omega)
    rw [show po_lv (k + 1) = nI k from rfl]
    refine br_f (nI_pos (by omega)) (po_bu hl (by omega) ⟨pk_in (po_bk l k) 16 hB.2, ?_⟩)
    rw [nI_clamp (show po_bk l k < 2 ^ 31 by omega)]
    refine ⟨pk_in (po_bk l k) 16 hB.2, nm_e (nm_r (pk_mul 4 _) ⟨4 + 1, ?_⟩)⟩
    refine pc_wp27 (P := fun s => ∃ j, j < k ∧ s / 4 = po_bk l j) hl (by omega) hB.2 rfl ?_ 4 (4 * po_bk l k) n r a1 a2 a3 a5 a6 a7 rfl (Nat.le_refl _) (po_chg (by decide) ok ?_) ?_ ?_
    · intro n r a1 a2 a3 a5 a6 a7 ok hP
      refine ih n r a1 a2 a3 _ a5 a6 a7 (by omega) ok ?_
      intro s ⟨j, hj, e⟩
      have := hBl j hj
      exact hP s ⟨j, hj, e⟩ (by omega)
    · intro s _ hs
      have hne : s / 4 ≠ po_bk l k := fun e => hs (hP s ⟨k, by omega, e⟩)
      show a2 s ^^^ po_pd f0_key (upd a4 (po_bk l k) (a4 (po_bk l k) + 1) (s / 4)) (nI s) = a2 s ^^^ po_pd f0_key (a4 (s / 4)) (nI s)
      rw [pk_un hne]
    · intro s ⟨j, hj, e⟩ _
      exact hP s ⟨j, by omega, e⟩
    · intro s h1 h2
      exact hP s ⟨k, by omega, by omega⟩
theorem pc_wp {post : St2 → Prop} {l n : Nat} (hl : l < 8) (ok : po_tok f0_key n a1 a2 a3 a4 a5 a6 a7 V T) (hE : ∀ s, po_on l s → a1 s = -1)
    (H : ∀ (n : Nat) (r : Int32) (a1 a2 a3 a4 a5 a6 a7 : Nat → Int32), po_tok f0_key n a1 a2 a3 a4 a5 a6 a7 V T → post (nI n, f0_mapStashed, r, f0_key, f0_touchedNow, a1, a2, a3, a4, a5, a6, a7, a8, a9, a10, a11, a12, a13, a14, a15, a16)) :
    wpX_writePath_2 post (nI n, f0_mapStashed, f0_random, f0_key, f0_touchedNow, a1, a2, a3, a4, a5, a6, a7, a8, a9, a10, a11, a12, a13, a14, a15, a16) (nI l) :=
  ⟨4 + 1, pc_wp2 hl H 4 n f0_random a1 a2 a3 a4 a5 a6 a7 (Nat.le_refl _) ok hE⟩
theorem pc_lf43b {post : Int32 → St2 → Prop} {x2 x6 sh : Int32} {w p m i0 : Nat} (hp : p < 4) (ok : po_mok m a8 a9 a10 a11 a12 a13 V T) (ou : ∀ j, j < m → a11 j = nI w → j = i0)
    (H : ∀ (m : Nat) (a8 a9 a10 a11 a12 a13 : Nat → Int32), po_mok m a8 a9 a10 a11 a12 a13 V T → post x6 (f0_stashed, nI m, f0_random, f0_key, f0_touchedNow, a1, a2, a3, a4, a5, a6, a7, a8, a9, a10, a11, a12, a13, a14, a15, a16)) :
    ∀ d i, i + d = m → i0 < i → wX_leafOf_2_43 post x2 (nI w) sh (nI p) f0_stashed (nI m) f0_random f0_key f0_touchedNow (d + 1) x6 (nI i) a1 a2 a3 a4 a5 a6 a7 a8 a9 a10 a11 a12 a13 a14 a15 a16 := by
  have hm : m ≤ 4 := po_le ok
  intro d
  induction d with
  | zero =>
    intro i hi _
    exact pk_le m i (fun _ => pc_wm hp ok (fun m a8 a9 a10 a11 a12 a13 ok => H m a8 a9 a10 a11 a12 a13 ok)) (fun z => absurd z (by omega))
  | succ d ih =>
    intro i hi h
    refine pk_le m i (fun z => absurd z (by omega)) (fun z => ⟨pk_in i 4 (by omega), ?_⟩)
    rw [nI_clamp (show i < 2 ^ 31 by omega)]
    exact br_f (fun e => absurd (ou i z e) (by omega)) (nm_r (nI_1 i) (ih (i + 1) (by omega) (by omega)))
theorem pc_lf43 {post : Int32 → St2 → Prop} {lf : Int32} {q w j p p' m i0 : Nat} {V' : Nat → Int32} {T' : Nat → Nat} (hw : w < 4) (hp : p < 4) (hq : q < 8) (ok : po_mok m a8 a9 a10 a11 a12 a13 V T) (hi0 : i0 < m) (o1 : a11 i0 = nI w) (o2 : a12 i0 = V w)
    (ou : ∀ j, j < m → a11 j = nI w → j = i0) (h14 : a14 w = nI p') (hlf : po_f (V w) j = lf) (ok' : po_mok m a8 a9 a10 a11 (upd a12 i0 (po_wd (V w) j q)) (upd a13 i0 (nI p')) V' T')
    (H : ∀ (m : Nat) (a8 a9 a10 a11 a12 a13 : Nat → Int32), po_mok m a8 a9 a10 a11 a12 a13 V' T' → post lf (f0_stashed, nI m, f0_random, f0_key, f0_touchedNow, a1, a2, a3, a4, a5, a6, a7, a8, a9, a10, a11, a12, a13, a14, a15, a16)) :
    ∀ c i, i + c = m → i ≤ i0 → wX_leafOf_2_43 post (nI q) (nI w) (nI (3 * j)) (nI p) f0_stashed (nI m) f0_random f0_key f0_touchedNow (c + 1) 0 (nI i) a1 a2 a3 a4 a5 a6 a7 a8 a9 a10 a11 a12 a13 a14 a15 a16 := by
  have hm : m ≤ 4 := po_le ok
  intro c
  induction c with
  | zero =>
    intro i hi h
    omega
  | succ c ih =>
    intro i hi h
    refine pk_le m i (fun z => absurd z (by omega)) (fun z => ⟨pk_in i 4 (by omega), ?_⟩)
    rw [nI_clamp (show i < 2 ^ 31 by omega)]
    by_cases e : i = i0
    · rw [e]
      refine br_t o1 ⟨pk_in i0 4 (by omega), nm_r o2 (nm_r hlf (br_f (po_nm (by omega)) ⟨pk_in i0 4 (by omega), nm_e ?_⟩))⟩
      unfold wX_leafOf_2_109
      rw [nI_clamp (show w < 2 ^ 31 by omega), nI_clamp (show i0 < 2 ^ 31 by omega)]
      exact ⟨pk_in w 4 hw, pk_in i0 4 (by omega), nm_r (congrArg (upd a13 i0) h14) (nm_r (nI_1 i0) (pc_lf43b hp ok' ou H c (i0 + 1) (by omega) (by omega)))⟩
    · exact br_f (fun e' => e (ou i z e')) (nm_r (nI_1 i) (ih (i + 1) (by omega) (by omega)))
theorem pc_lf {post : Int32 → St2 → Prop} {b q m : Nat} {T' : Nat → Nat} (hb : b < 16) (hq : q < 8) (I : po_mI m a8 a9 a10 a11 a12 a13 a14 T) (hT : T' b = q) (hT' : ∀ c, c ≠ b → T' c = T c)
    (H : ∀ (m : Nat) (r : Int32) (a8 a9 a10 a11 a12 a13 a14 : Nat → Int32), po_mI m a8 a9 a10 a11 a12 a13 a14 T' → post (nI (T b)) (f0_stashed, nI m, r, f0_key, f0_touchedNow, a1, a2, a3, a4, a5, a6, a7, a8, a9, a10, a11, a12, a13, a14, a15, a16)) :
    wpX_leafOf_2 post (f0_stashed, nI m, f0_random, f0_key, f0_touchedNow, a1, a2, a3, a4, a5, a6, a7, a8, a9, a10, a11, a12, a13, a14, a15, a16) (nI b) (nI q) := by
  obtain ⟨V, MT, ok, hw, hf⟩ := I
  have hw4 : b / 4 < 4 := by omega
  refine nm_r (po_w b hb) (nm_r (po_sh b hb) ⟨pk_in (b / 4) 4 hw4, ?_⟩)
  rw [nI_clamp (show b / 4 < 2 ^ 31 by omega)]
  refine nm_r (hw (b / 4) hw4) (pc_nx3 (fun x r => ?_))
  obtain ⟨p, hp', ep⟩ := pk_andE x (m := 3) 2 (by decide)
  refine ⟨pk_in (b / 4) 4 hw4, nm_r (congrArg (upd a14 (b / 4)) ep) (pc_rm (po_mT ok hw4) ok (fun m1 b8 b11 b12 b13 ok1 hE => ?_))⟩
  obtain ⟨i0, hi0, o1, o2, o3, ou⟩ := po_find (by decide) ok1 hw4 (fun s _ h => hE s h)
  refine ⟨m1 + 1, ?_⟩
  have ok2 : po_mok m1 b8 a9 a10 b11 (upd b12 i0 (po_wd (V (b / 4)) (b % 4) q)) (upd b13 i0 (nI p)) (po_u V (b / 4) (po_wd (V (b / 4)) (b % 4) q)) (po_u MT (b / 4) p) :=
    po_set (by decide) ok1 hi0 hw4 o1 (by omega) po_us (fun c h => po_un h) po_us (fun c h => po_un h)
  exact pc_lf43 hw4 (po_mT ok hw4) hq ok1 hi0 o1 o2 ou pk_us (hf b hb) ok2 (fun m2 c8 c9 c10 c11 c12 c13 ok3 => H m2 r c8 c9 c10 c11 c12 c13 _ (po_mput hb hq hw hf hT hT' ok3)) m1 0 (by omega) (by omega)
theorem pc_ac35b {post : Int32 → St2 → Prop} {x2 x3 x4 x6 : Int32} {b l n i0 : Nat} (hl : l < 8) (ok : po_tok f0_key n a1 a2 a3 a4 a5 a6 a7 V T) (hE : ∀ s, po_on l s → a1 s = -1) (ou : ∀ j, j < n → a5 j = nI b → j = i0)
    (H : ∀ (n : Nat) (r : Int32) (a1 a2 a3 a4 a5 a6 a7 : Nat → Int32), po_tok f0_key n a1 a2 a3 a4 a5 a6 a7 V T → post x6 (nI n, f0_mapStashed, r, f0_key, f0_touchedNow, a1, a2, a3, a4, a5, a6, a7, a8, a9, a10, a11, a12, a13, a14, a15, a16)) :
    ∀ d i, i + d = n → i0 < i → wX_access_2_35 post (nI b) x2 x3 x4 (nI l) (nI n) f0_mapStashed f0_random f0_key f0_touchedNow (d + 1) x6 (nI i) a1 a2 a3 a4 a5 a6 a7 a8 a9 a10 a11 a12 a13 a14 a15 a16 := by
  have hn : n ≤ 16 := po_le ok
  intro d
  induction d with
  | zero =>
    intro i hi _
    exact pk_le n i (fun _ => pc_wp hl ok hE (fun n r a1 a2 a3 a4 a5 a6 a7 ok => H n r a1 a2 a3 a4 a5 a6 a7 ok)) (fun z => absurd z (by omega))
  | succ d ih =>
    intro i hi h
    refine pk_le n i (fun z => absurd z (by omega)) (fun z => ⟨pk_in i 16 (by omega), ?_⟩)
    rw [nI_clamp (show i < 2 ^ 31 by omega)]
    exact br_f (fun e => absurd (ou i z e) (by omega)) (nm_r (nI_1 i) (ih (i + 1) (by omega) (by omega)))
theorem pc_ac35 {post : Int32 → St2 → Prop} {x2 x3 v z : Int32} {b l q n i0 : Nat} {V' : Nat → Int32} {T' : Nat → Nat} (hl : l < 8) (hn : n ≤ 16) (hE : ∀ s, po_on l s → a1 s = -1) (hi0 : i0 < n) (o1 : a5 i0 = nI b) (o2 : a6 i0 = v)
    (ou : ∀ j, j < n → a5 j = nI b → j = i0) (hz0 : x2 = 0 → z = v) (hz1 : ¬ x2 = 0 → z = x3) (ok' : po_tok f0_key n a1 a2 a3 a4 a5 (upd a6 i0 z) (upd a7 i0 (nI q)) V' T')
    (H : ∀ (n : Nat) (r : Int32) (a1 a2 a3 a4 a5 a6 a7 : Nat → Int32), po_tok f0_key n a1 a2 a3 a4 a5 a6 a7 V' T' → post v (nI n, f0_mapStashed, r, f0_key, f0_touchedNow, a1, a2, a3, a4, a5, a6, a7, a8, a9, a10, a11, a12, a13, a14, a15, a16)) :
    ∀ c i, i + c = n → i ≤ i0 → wX_access_2_35 post (nI b) x2 x3 (nI q) (nI l) (nI n) f0_mapStashed f0_random f0_key f0_touchedNow (c + 1) 0 (nI i) a1 a2 a3 a4 a5 a6 a7 a8 a9 a10 a11 a12 a13 a14 a15 a16 := by
  intro c
  induction c with
  | zero =>
    intro i hi h
    omega
  | succ c ih =>
    intro i hi h
    refine pk_le n i (fun y => absurd y (by omega)) (fun y => ⟨pk_in i 16 (by omega), ?_⟩)
    rw [nI_clamp (show i < 2 ^ 31 by omega)]
    by_cases e : i = i0
    · rw [e]
      refine br_t o1 ⟨pk_in i0 16 (by omega), nm_r o2 (br_c (fun h0 => ?_) (fun h0 => ?_))⟩
      · rw [hz0 h0] at ok'
        unfold wX_access_2_80
        rw [nI_clamp (show i0 < 2 ^ 31 by omega)]
        exact ⟨pk_in i0 16 (by omega), nm_e ⟨pk_in i0 16 (by omega), nm_e (nm_r (nI_1 i0) (pc_ac35b hl ok' hE ou H c (i0 + 1) (by omega) (by omega)))⟩⟩
      · rw [hz1 h0] at ok'
        unfold wX_access_2_80
        rw [nI_clamp (show i0 < 2 ^ 31 by omega)]
        exact ⟨pk_in i0 16 (by omega), nm_e ⟨pk_in i0 16 (by omega), nm_e (nm_r (nI_1 i0) (pc_ac35b hl ok' hE ou H c (i0 + 1) (by omega) (by omega)))⟩⟩
    · exact br_f (fun e' => e (ou i y e')) (nm_r (nI_1 i) (ih (i + 1) (by omega) (by omega)))
theorem pc_ac {post : Int32 → St2 → Prop} {b n m : Nat} {ch val : Int32} {V' : Nat → Int32} (hb : b < 16) (I : po_I n m f0_key a1 a2 a3 a4 a5 a6 a7 a8 a9 a10 a11 a12 a13 a14 V) (hV0 : ch = 0 → V' b = V b) (hV1 : ¬ ch = 0 → V' b = val) (hV : ∀ c, c ≠ b → V' c = V c)
    (H : ∀ (n m : Nat) (r : Int32) (a1 a2 a3 a4 a5 a6 a7 a8 a9 a10 a11 a12 a13 a14 : Nat → Int32), po_I n m f0_key a1 a2 a3 a4 a5 a6 a7 a8 a9 a10 a11 a12 a13 a14 V' → post (V b) (nI n, nI m, r, f0_key, 4, a1, a2, a3, a4, a5, a6, a7, a8, a9, a10, a11, a12, a13, a14, a15, a16)) :
    wpX_access_2 post (nI n, nI m, f0_random, f0_key, f0_touchedNow, a1, a2, a3, a4, a5, a6, a7, a8, a9, a10, a11, a12, a13, a14, a15, a16) (nI b) ch val := by
  obtain ⟨T, ok, hM⟩ := I
  have hTb : T b < 8 := po_tT ok hb
  unfold wpX_access_2
  refine pc_nx1 (fun x r => ?_)
  obtain ⟨q, hq, eq⟩ := pk_andE x (m := 7) 3 (by decide)
  refine nm_r eq ?_
  refine pc_lf (T' := po_u T b q) hb (by omega) hM po_us (fun c h => po_un h) (fun m1 r1 b8 b9 b10 b11 b12 b13 b14 hM1 => ?_)
  refine pc_rp hTb ok (fun n1 b1 b5 b6 b7 ok1 hE => ?_)
  rw [show (0 : Int32) + nI 4 = 4 from by decide]
  obtain ⟨i0, hi0, o1, o2, o3, ou⟩ := po_find (by decide) ok1 hb (fun s _ h => hE s h)
  refine ⟨n1 + 1, ?_⟩
  have ok2 : po_tok f0_key n1 b1 a2 a3 a4 b5 (upd b6 i0 (V' b)) (upd b7 i0 (nI q)) V' (po_u T b q) :=
    po_set (by decide) ok1 hi0 hb o1 (by omega) rfl hV po_us (fun c h => po_un h)
  exact pc_ac35 hTb (po_le ok1) hE hi0 o1 o2 ou hV0 hV1 ok2 (fun n2 r2 c1 c2 c3 c4 c5 c6 c7 ok3 => H n2 m1 r2 c1 c2 c3 c4 c5 c6 c7 b8 b9 b10 b11 b12 b13 b14 ⟨_, ok3, hM1⟩) n1 0 (by omega) (by omega)
end
end
section
/-! ===== the constructor ===== -/
section
variable {f0_stashed f0_mapStashed f0_random f0_key f0_touchedNow : Int32} {a1 a2 a3 a4 a5 a6 a7 a8 a9 a10 a11 a12 a13 a14 a15 a16 : Nat → Int32} {V : Nat → Int32} {T : Nat → Nat} {post : St2 → Prop} {mc ms kc ks : Nat}
theorem po_stir (H : ∀ r, post (f0_stashed, f0_mapStashed, r, f0_key, f0_touchedNow, a1, a2, a3, a4, a5, a6, a7, a8, a9, a10, a11, a12, a13, a14, a15, a16)) {p0 : Int32} : wpX_stir post (f0_stashed, f0_mapStashed, f0_random, f0_key, f0_touchedNow, a1, a2, a3, a4, a5, a6, a7, a8, a9, a10, a11, a12, a13, a14, a15, a16) p0 := br_c (fun _ => H _) (fun _ => H _)
theorem po_i336 (H : ∀ (m : Nat) (a8 a9 a10 a11 a12 a13 : Nat → Int32), po_mok m a8 a9 a10 a11 a12 a13 V T → post (f0_stashed, nI m, f0_random, f0_key, 0, a1, a2, a3, a4, a5, a6, a7, a8, a9, a10, a11, a12, a13, a14, a15, a16)) :
    ∀ (d i m : Nat) (a8 a9 a10 a11 a12 a13 : Nat → Int32), i + d = 4 → po_mok m a8 a9 a10 a11 a12 a13 V T → wX_init_336 post mc ms kc ks (d + 1) (nI i) f0_stashed (nI m) f0_random f0_key f0_touchedNow a1 a2 a3 a4 a5 a6 a7 a8 a9 a10 a11 a12 a13 a14 a15 a16 := by
  intro d
  induction d with
  | zero =>
    intro i m a8 a9 a10 a11 a12 a13 hi ok
    exact pk_le 4 i (fun _ => H m a8 a9 a10 a11 a12 a13 ok) (fun z => absurd z (by omega))
  | succ d ih =>
    intro i m a8 a9 a10 a11 a12 a13 hi ok
    refine pk_le 4 i (fun z => absurd z (by omega)) (fun _ => ?_)
    refine po_rm (by omega) ok (fun m b8 b11 b12 b13 ok _ => ?_)
    refine po_wm (by omega) ok (fun m c8 c9 c10 c11 c12 c13 ok => ?_)
    exact nm_r (nI_1 i) (ih (i + 1) m c8 c9 c10 c11 c12 c13 (by omega) ok)
theorem po_i312 (H : ∀ (n : Nat) (r t : Int32) (a1 a2 a3 a4 a5 a6 a7 : Nat → Int32), po_tok f0_key n a1 a2 a3 a4 a5 a6 a7 V T → ∃ fu : Nat, wX_init_336 post mc ms kc ks fu 0 (nI n) f0_mapStashed r f0_key t a1 a2 a3 a4 a5 a6 a7 a8 a9 a10 a11 a12 a13 a14 a15 a16) :
    ∀ (d i n : Nat) (r t : Int32) (a1 a2 a3 a4 a5 a6 a7 : Nat → Int32), i + d = 8 → po_tok f0_key n a1 a2 a3 a4 a5 a6 a7 V T → wX_init_312 post mc ms kc ks (d + 1) (nI i) (nI n) f0_mapStashed r f0_key t a1 a2 a3 a4 a5 a6 a7 a8 a9 a10 a11 a12 a13 a14 a15 a16 := by
  intro d
  induction d with
  | zero =>
    intro i n r t a1 a2 a3 a4 a5 a6 a7 hi ok
    exact pk_le 8 i (fun _ => H n r t a1 a2 a3 a4 a5 a6 a7 ok) (fun z => absurd z (by omega))
  | succ d ih =>
    intro i n r t a1 a2 a3 a4 a5 a6 a7 hi ok
    refine pk_le 8 i (fun z => absurd z (by omega)) (fun _ => ?_)
    refine po_rp (by omega) ok (fun n b1 b5 b6 b7 ok hE => ?_)
    refine po_wp (by omega) ok hE (fun n r c1 c2 c3 c4 c5 c6 c7 ok => ?_)
    exact nm_r (nI_1 i) (ih (i + 1) n r _ c1 c2 c3 c4 c5 c6 c7 (by omega) ok)
def po_q4 (i : Nat) (a11 a12 a13 a14 a16 : Nat → Int32) : Prop := ∀ w, w < i → (∃ t, t < 4 ∧ a14 w = nI t) ∧ a11 w = nI w ∧ a12 w = a16 w ∧ a13 w = a14 w
theorem po_i251 (H : ∀ (r : Int32) (a11 a12 a13 a14 : Nat → Int32), po_q4 4 a11 a12 a13 a14 a16 → ∃ fu : Nat, wX_init_312 post mc ms kc ks fu 0 f0_stashed 4 r f0_key f0_touchedNow a1 a2 a3 a4 a5 a6 a7 a8 a9 a10 a11 a12 a13 a14 a15 a16) :
    ∀ (d i : Nat) (r : Int32) (a11 a12 a13 a14 : Nat → Int32), i + d = 4 → po_q4 i a11 a12 a13 a14 a16 → wX_init_251 post mc ms kc ks (d + 1) (nI i) f0_stashed f0_mapStashed r f0_key f0_touchedNow a1 a2 a3 a4 a5 a6 a7 a8 a9 a10 a11 a12 a13 a14 a15 a16 := by
  intro d
  induction d with
  | zero =>
    intro i r a11 a12 a13 a14 hi ok
    have hi4 : i = 4 := by omega
    rw [hi4] at ok
    exact pk_le 4 i (fun _ => H r a11 a12 a13 a14 ok) (fun z => absurd z (by omega))
  | succ d ih =>
    intro i r a11 a12 a13 a14 hi ok
    refine pk_le 4 i (fun z => absurd z (by omega)) (fun _ => po_nx3 (fun x r' => ⟨pk_in i 4 (by omega), ?_⟩))
    rw [nI_clamp (show i < 2 ^ 31 by omega)]
    refine nm_e ⟨pk_in i 4 (by omega), nm_e ⟨pk_in i 16 (by omega), pk_in i 4 (by omega), nm_e ⟨pk_in i 4 (by omega), pk_in i 4 (by omega), nm_e (nm_r (nI_1 i) (ih (i + 1) r' _ _ _ _ (by omega) ?_))⟩⟩⟩
    obtain ⟨p, hp, ep⟩ := pk_andE x (m := 3) 2 (by decide)
    intro w hw
    by_cases c : w = i
    · rw [c, pk_us, pk_us, pk_us, pk_us]
      exact ⟨⟨p, by omega, ep⟩, rfl, rfl, rfl⟩
    · rw [pk_un c, pk_un c, pk_un c, pk_un c]
      exact ok w (by omega)
def po_q16 (i : Nat) (a5 a7 a16 : Nat → Int32) : Prop := (∀ j, j < i → a5 j = nI j ∧ (∃ t, t < 8 ∧ a7 j = nI t) ∧ po_f (a16 (j / 4)) (j % 4) = a7 j) ∧ (∀ j, i ≤ j → j < 16 → po_f (a16 (j / 4)) (j % 4) = 0)
theorem po_q16s {i q : Nat} {a5 a7 a16 : Nat → Int32} (hi : i < 16) (hq : q < 8) (h : po_q16 i a5 a7 a16) :
    po_q16 (i + 1) (upd a5 i (nI i)) (upd a7 i (nI q)) (upd a16 (i / 4) (a16 (i / 4) ||| (nI q <<< (nI (3 * (i % 4)) &&& 31)))) := by
  obtain ⟨h1, h2⟩ := h
  have F : ∀ j, j < 16 → po_f (upd a16 (i / 4) (a16 (i / 4) ||| (nI q <<< (nI (3 * (i % 4)) &&& 31))) (j / 4)) (j % 4) = if j = i then nI q else po_f (a16 (j / 4)) (j % 4) := by
    intro j hj
    by_cases e : j / 4 = i / 4
    · rw [e, pk_us, po_f_add _ hq (by omega) (by omega) (h2 i (Nat.le_refl i) hi)]
      by_cases e2 : i % 4 = j % 4
      · rw [if_pos e2, if_pos (by omega)]
      · rw [if_neg e2, if_neg (by omega)]
    · rw [pk_un e, if_neg (fun z => e (by rw [z]))]
  refine ⟨fun j hj => ?_, fun j hj hj2 => ?_⟩
  · rw [F j (by omega)]
    by_cases c : j = i
    · rw [if_pos c, c, pk_us, pk_us]
      exact ⟨rfl, ⟨q, hq, rfl⟩, rfl⟩
    · rw [if_neg c, pk_un c, pk_un c]
      exact h1 j (by omega)
  · rw [F j hj2, if_neg (by omega)]
    exact h2 j (by omega) hj2
theorem po_i185 (H : ∀ (r : Int32) (a5 a7 a16 : Nat → Int32), po_q16 16 a5 a7 a16 → ∃ fu : Nat, wX_init_251 post mc ms kc ks fu 0 16 f0_mapStashed r f0_key f0_touchedNow a1 a2 a3 a4 a5 a6 a7 a8 a9 a10 a11 a12 a13 a14 a15 a16) :
    ∀ (d i : Nat) (r : Int32) (a5 a7 a16 : Nat → Int32), i + d = 16 → po_q16 i a5 a7 a16 → wX_init_185 post mc ms kc ks (d + 1) (nI i) f0_stashed f0_mapStashed r f0_key f0_touchedNow a1 a2 a3 a4 a5 a6 a7 a8 a9 a10 a11 a12 a13 a14 a15 a16 := by
  intro d
  induction d with
  | zero =>
    intro i r a5 a7 a16 hi ok
    have hi4 : i = 16 := by omega
    rw [hi4] at ok
    exact pk_le 16 i (fun _ => H r a5 a7 a16 ok) (fun z => absurd z (by omega))
  | succ d ih =>
    intro i r a5 a7 a16 hi ok
    refine pk_le 16 i (fun z => absurd z (by omega)) (fun _ => po_nx1 (fun x r' => ?_))
    obtain ⟨q, hq, eq⟩ := pk_andE x (m := 7) 3 (by decide)
    refine nm_r eq ⟨pk_in i 16 (by omega), ?_⟩
    rw [po_w i (by omega), po_sh i (by omega), nI_clamp (show i < 2 ^ 31 by omega), nI_clamp (show i / 4 < 2 ^ 31 by omega)]
    exact nm_e ⟨pk_in i 16 (by omega), nm_e ⟨pk_in (i / 4) 16 (by omega), pk_in (i / 4) 16 (by omega), nm_e (nm_r (nI_1 i) (ih (i + 1) r' _ _ _ (by omega) (po_q16s (by omega) (by omega) ok)))⟩⟩
theorem po_i164 (H : ∀ (a8 : Nat → Int32), (∀ s, s < 16 → a8 s = -1) → ∃ fu : Nat, wX_init_185 post mc ms kc ks fu 0 f0_stashed f0_mapStashed f0_random f0_key f0_touchedNow a1 a2 a3 a4 a5 a6 a7 a8 a9 a10 a11 a12 a13 a14 a15 a16) :
    ∀ (d i : Nat) (a8 : Nat → Int32), i + d = 16 → (∀ s, s < i → a8 s = -1) → wX_init_164 post mc ms kc ks f0_stashed f0_mapStashed f0_random f0_key f0_touchedNow (d + 1) (nI i) a1 a2 a3 a4 a5 a6 a7 a8 a9 a10 a11 a12 a13 a14 a15 a16 := by
  intro d
  induction d with
  | zero =>
    intro i a8 hi ok
    exact pk_le 16 i (fun _ => H a8 (fun s hs => ok s (by omega))) (fun z => absurd z (by omega))
  | succ d ih =>
    intro i a8 hi ok
    refine pk_le 16 i (fun z => absurd z (by omega)) (fun _ => ⟨pk_in i 16 (by omega), ?_⟩)
    rw [nI_clamp (show i < 2 ^ 31 by omega)]
    refine nm_e (nm_r (nI_1 i) (ih (i + 1) _ (by omega) ?_))
    intro s hs
    by_cases c : s = i
    · rw [c, pk_us]
    · rw [pk_un c]
      exact ok s (by omega)
theorem po_i143 (H : ∀ (a1 : Nat → Int32), (∀ s, s < 64 → a1 s = -1) → ∃ fu : Nat, wX_init_164 post mc ms kc ks f0_stashed f0_mapStashed f0_random f0_key f0_touchedNow fu 0 a1 a2 a3 a4 a5 a6 a7 a8 a9 a10 a11 a12 a13 a14 a15 a16) :
    ∀ (d i : Nat) (a1 : Nat → Int32), i + d = 64 → (∀ s, s < i → a1 s = -1) → wX_init_143 post mc ms kc ks f0_stashed f0_mapStashed f0_random f0_key f0_touchedNow (d + 1) (nI i) a1 a2 a3 a4 a5 a6 a7 a8 a9 a10 a11 a12 a13 a14 a15 a16 := by
  intro d
  induction d with
  | zero =>
    intro i a1 hi ok
    exact pk_le 64 i (fun _ => H a1 (fun s hs => ok s (by omega))) (fun z => absurd z (by omega))
  | succ d ih =>
    intro i a1 hi ok
    refine pk_le 64 i (fun z => absurd z (by omega)) (fun _ => ⟨pk_in i 64 (by omega), ?_⟩)
    rw [nI_clamp (show i < 2 ^ 31 by omega)]
    refine nm_e (nm_r (nI_1 i) (ih (i + 1) _ (by omega) ?_))
    intro s hs
    by_cases c : s = i
    · rw [c, pk_us]
    · rw [pk_un c]
      exact ok s (by omega)
end
theorem po_init {post : St2 → Prop} {mc ms : Nat} {seed : Int32} (hmc : 16 ≤ mc) (hms : 368 ≤ ms)
    (H : ∀ (n m : Nat) (r k : Int32) (a1 a2 a3 a4 a5 a6 a7 a8 a9 a10 a11 a12 a13 a14 a15 a16 : Nat → Int32), po_I n m k a1 a2 a3 a4 a5 a6 a7 a8 a9 a10 a11 a12 a13 a14 (fun _ => 0) → post (nI n, nI m, r, k, 0, a1, a2, a3, a4, a5, a6, a7, a8, a9, a10, a11, a12, a13, a14, a15, a16)) : wpX_init post mc ms (0, 0, 0, 0, 0) seed := by
  refine ⟨by omega, by omega, by omega, by omega, by omega, by omega, by omega, by omega, by omega, by omega, by omega, by omega, by omega, by omega, by omega, by omega, by omega, by omega, by omega, by omega, by omega, by omega, by omega, by omega, by omega, by omega, by omega, by omega, by omega, by omega, by omega, by omega, ?_⟩
  refine po_stir (fun r0 => ?_)
  refine po_nx1 (fun key r1 => ?_)
  refine ⟨64 + 1, po_i143 (fun b1 hb1 => ?_) 64 0 _ rfl (fun s hs => absurd hs (by omega))⟩
  refine ⟨16 + 1, po_i164 (fun b8 hb8 => ?_) 16 0 _ rfl (fun s hs => absurd hs (by omega))⟩
  refine ⟨16 + 1, po_i185 (fun r2 b5 b7 b16 h16 => ?_) 16 0 _ _ _ _ rfl ⟨fun j hj => absurd hj (by omega), fun j _ hj => po_f_0 (j % 4) (by omega)⟩⟩
  refine ⟨4 + 1, po_i251 (fun r3 b11 b12 b13 b14 h4 => ?_) 4 0 _ _ _ _ _ rfl (fun w hw => absurd hw (by omega))⟩
  have t7 : ∀ b, b < 16 → (b7 b).toNatClampNeg < 8 ∧ b7 b = nI (b7 b).toNatClampNeg := by
    intro b hb
    obtain ⟨_, ⟨t, ht, e⟩, _⟩ := h16.1 b hb
    rw [e, nI_clamp (by omega)]
    exact ⟨ht, rfl⟩
  have t14 : ∀ w, w < 4 → (b14 w).toNatClampNeg < 4 ∧ b14 w = nI (b14 w).toNatClampNeg := by
    intro w hw
    obtain ⟨⟨t, ht, e⟩, _⟩ := h4 w hw
    rw [e, nI_clamp (by omega)]
    exact ⟨ht, rfl⟩
  have okT : po_tok key 16 b1 (fun _ => 0) (fun _ => 0) (fun _ => 0) b5 (fun _ => 0) b7 (fun _ => 0) (fun b => (b7 b).toNatClampNeg) :=
    po_new (fun b hb => (t7 b hb).1) hb1 (fun b hb => ⟨(h16.1 b hb).1, rfl, (t7 b hb).2⟩)
  have okM : po_mok 4 b8 (fun _ => 0) (fun _ => 0) b11 b12 b13 b16 (fun w => (b14 w).toNatClampNeg) :=
    po_new (fun w hw => (t14 w hw).1) hb8 (fun w hw => ⟨(h4 w hw).2.1, (h4 w hw).2.2.1, by rw [(h4 w hw).2.2.2]; exact (t14 w hw).2⟩)
  refine ⟨8 + 1, po_i312 (fun n r4 t4 c1 c2 c3 c4 c5 c6 c7 ok => ?_) 8 0 16 _ _ _ _ _ _ _ _ _ rfl okT⟩
  refine ⟨4 + 1, po_i336 (fun m c8 c9 c10 c11 c12 c13 okm => ?_) 4 0 4 _ _ _ _ _ _ rfl okM⟩
  refine H n m r4 key c1 c2 c3 c4 c5 c6 c7 c8 c9 c10 c11 c12 c13 b14 (fun _ => 0) b16 ⟨_, ok, _, _, okm, fun w hw => (t14 w hw).2, fun b hb => ?_⟩
  show po_f (b16 (b / 4)) (b % 4) = nI (b7 b).toNatClampNeg
  rw [← (t7 b hb).2]
  exact (h16.1 b hb).2.2
end
section
/-! ===== gather, the sort, ranked ===== -/
def po_srt (a : Nat → Int32) (i : Nat) : Prop := ∀ j k, j ≤ k → k < i → a j ≤ a k
def po_one (x : Int32) (a : Nat → Int32) : Prop := ∃ p, p < 16 ∧ a p = x ∧ ∀ j, j < 16 → j ≠ p → a j = 0
theorem po_one_ext {x : Int32} {f g : Nat → Int32} (h : po_one x f) (e : ∀ j, j < 16 → g j = f j) : po_one x g := by
  obtain ⟨p, hp, h1, h2⟩ := h
  exact ⟨p, hp, by rw [e p hp, h1], fun j hj hne => by rw [e j hj, h2 j hj hne]⟩
theorem po_one_sw {x : Int32} {f g : Nat → Int32} {q : Nat} (hq : q + 1 < 16) (h : po_one x f) (e1 : g q = f (q + 1)) (e2 : g (q + 1) = f q) (e : ∀ j, j ≠ q → j ≠ q + 1 → g j = f j) : po_one x g := by
  obtain ⟨p, hp, h1, h2⟩ := h
  by_cases c1 : p = q
  · refine ⟨q + 1, hq, by rw [e2, ← c1, h1], fun j hj hne => ?_⟩
    by_cases c : j = q
    · rw [c, e1]
      exact h2 (q + 1) hq (by omega)
    · rw [e j c hne]
      exact h2 j hj (by omega)
  · by_cases c2 : p = q + 1
    · refine ⟨q, by omega, by rw [e1, ← c2, h1], fun j hj hne => ?_⟩
      by_cases c : j = q + 1
      · rw [c, e2]
        exact h2 q (by omega) (by omega)
      · rw [e j hne c]
        exact h2 j hj (by omega)
    · refine ⟨p, hp, by rw [e p c1 c2, h1], fun j hj hne => ?_⟩
      by_cases d1 : j = q
      · rw [d1, e1]
        exact h2 (q + 1) hq (by omega)
      · by_cases d2 : j = q + 1
        · rw [d2, e2]
          exact h2 q (by omega) (by omega)
        · rw [e j d1 d2]
          exact h2 j hj hne
/-- a front part sorted but for a hole at t, which waits for v -/
def po_hole (x v : Int32) (a : Nat → Int32) (i t : Nat) : Prop := (∀ j k, j ≤ k → k ≤ i → j ≠ t → k ≠ t → a j ≤ a k) ∧ (∀ k, t < k → k ≤ i → v ≤ a k) ∧ po_one x (upd a t v)
theorem po_done {x v : Int32} {a : Nat → Int32} {i t : Nat} (h : po_hole x v a i t) (ht : t ≤ i) (hp : ∀ q, t = q + 1 → a q ≤ v) : po_srt (upd a t v) (i + 1) := by
  obtain ⟨s1, s2, _⟩ := h
  intro j k hjk hk
  by_cases cj : j = t
  · by_cases ck : k = t
    · rw [cj, ck]
      exact Int32.le_refl _
    · rw [cj, pk_us, pk_un ck]
      exact s2 k (by omega) (by omega)
  · by_cases ck : k = t
    · rw [ck, pk_us, pk_un cj]
      obtain ⟨q, hq⟩ : ∃ q, t = q + 1 := ⟨t - 1, by omega⟩
      exact Int32.le_trans (s1 j q (by omega) (by omega) cj (by omega)) (hp q hq)
    · rw [pk_un cj, pk_un ck]
      exact s1 j k hjk (by omega) cj ck
theorem po_shift {x v : Int32} {a : Nat → Int32} {i q : Nat} (h : po_hole x v a i (q + 1)) (hi : i < 16) (ht : q + 1 ≤ i) (hv : ¬ a q ≤ v) : po_hole x v (upd a (q + 1) (a q)) i q := by
  obtain ⟨s1, s2, s3⟩ := h
  refine ⟨fun j k hjk hk hj hk' => ?_, fun k hk hki => ?_, ?_⟩
  · by_cases cj : j = q + 1
    · by_cases ck : k = q + 1
      · rw [cj, ck]
        exact Int32.le_refl _
      · rw [cj, pk_us, pk_un ck]
        exact s1 q k (by omega) hk (by omega) ck
    · by_cases ck : k = q + 1
      · rw [ck, pk_us, pk_un cj]
        exact s1 j q (by omega) (by omega) cj (by omega)
      · rw [pk_un cj, pk_un ck]
        exact s1 j k hjk hk cj ck
  · by_cases ck : k = q + 1
    · rw [ck, pk_us]
      exact Int32.le_of_lt (Int32.not_le.mp hv)
    · rw [pk_un ck]
      exact s2 k (by omega) hki
  · refine po_one_sw (q := q) (by omega) s3 ?_ ?_ ?_
    · rw [pk_us, pk_us]
    · rw [pk_un (by omega), pk_us, pk_un (by omega)]
    · intro j h1 h2
      rw [pk_un h1, pk_un h2, pk_un h2]
/-- what the sorted row holds at k -/
def po_du (x k : Int32) : Int32 := if (k = 0 ∧ x < 0) ∨ (k = 15 ∧ ¬ x ≤ 0) then x else 0
theorem po_due {x : Int32} {a : Nat → Int32} {k : Nat} (hs : po_srt a 16) (ho : po_one x a) (hk : k < 16) : a k = po_du x (nI k) := by
  obtain ⟨p, hp, h1, h2⟩ := ho
  unfold po_du
  by_cases z : x < 0
  · have hp0 : p = 0 := by
      rcases Nat.eq_zero_or_pos p with e | e
      · exact e
      · have h0 := h2 0 (by omega) (by omega)
        have hl := hs 0 p (by omega) hp
        rw [h0, h1] at hl
        exact absurd z (Int32.not_lt.mpr hl)
    by_cases c : k = 0
    · rw [if_pos (Or.inl ⟨by rw [c]; rfl, z⟩), c, ← hp0]
      exact h1
    · rw [if_neg, h2 k hk (by omega)]
      intro h
      rcases h with ⟨e, _⟩ | ⟨_, e⟩
      · exact nI_ne0 (by omega) (by omega) e
      · exact e (Int32.le_of_lt z)
  · by_cases z2 : x ≤ 0
    · have x0 : x = 0 := Int32.le_antisymm z2 (Int32.not_lt.mp z)
      rw [if_neg]
      · by_cases c : k = p
        · rw [c, h1, x0]
        · exact h2 k hk c
      · intro h
        rcases h with ⟨_, e⟩ | ⟨_, e⟩
        · exact z e
        · exact e z2
    · have hp15 : p = 15 := by
        by_cases e : p = 15
        · exact e
        · have h0 := h2 15 (by omega) (fun w => e w.symm)
          have hl := hs p 15 (by omega) (by omega)
          rw [h0, h1] at hl
          exact absurd hl z2
      by_cases c : k = 15
      · rw [if_pos (Or.inr ⟨by rw [c]; rfl, z2⟩), c, ← hp15]
        exact h1
      · rw [if_neg, h2 k hk (by omega)]
        intro h
        rcases h with ⟨_, e⟩ | ⟨e, _⟩
        · exact z e
        · exact c ((nI_eq (b := 15) (by omega) (by omega)).mp e)
section
variable {f0_stashed f0_mapStashed f0_random f0_key f0_touchedNow : Int32} {a1 a2 a3 a4 a5 a6 a7 a8 a9 a10 a11 a12 a13 a14 a15 a16 : Nat → Int32} {V : Nat → Int32} {T : Nat → Nat}
theorem po_isb {post : Int32 → Prop} {b : Nat} (hb : b < 16) (H : post 1) : wpX_isBlock post () (nI b) := br_f (nI_pos (by omega)) (br_f (nI_ge (b := 16) hb (by decide)) H)
theorem po_isn {post : Int32 → Prop} {x : Int32} (hb : x < 0 ∨ 16 ≤ x) (H : post 0) : wpX_isBlock post () x := br_c (fun _ => H) (fun z => br_t (hb.resolve_left z) H)
theorem po_ga2 {post : St2 → Prop} (H : ∀ (n m : Nat) (r t : Int32) (a1 a2 a3 a4 a5 a6 a7 a8 a9 a10 a11 a12 a13 a14 a16 : Nat → Int32), po_I n m f0_key a1 a2 a3 a4 a5 a6 a7 a8 a9 a10 a11 a12 a13 a14 V → (∀ j, j < 16 → a16 j = V j) → post (nI n, nI m, r, f0_key, t, a1, a2, a3, a4, a5, a6, a7, a8, a9, a10, a11, a12, a13, a14, a15, a16)) :
    ∀ (d i n m : Nat) (r t : Int32) (a1 a2 a3 a4 a5 a6 a7 a8 a9 a10 a11 a12 a13 a14 a16 : Nat → Int32), i + d = 16 → po_I n m f0_key a1 a2 a3 a4 a5 a6 a7 a8 a9 a10 a11 a12 a13 a14 V → (∀ j, j < i → a16 j = V j) → wX_gather_2 post (d + 1) (nI i) (nI n) (nI m) r f0_key t a1 a2 a3 a4 a5 a6 a7 a8 a9 a10 a11 a12 a13 a14 a15 a16 := by
  intro d
  induction d with
  | zero =>
    intro i n m r t a1 a2 a3 a4 a5 a6 a7 a8 a9 a10 a11 a12 a13 a14 a16 hi I hj
    exact pk_le 16 i (fun _ => H n m r t a1 a2 a3 a4 a5 a6 a7 a8 a9 a10 a11 a12 a13 a14 a16 I (fun j h => hj j (by omega))) (fun z => absurd z (by omega))
  | succ d ih =>
    intro i n m r t a1 a2 a3 a4 a5 a6 a7 a8 a9 a10 a11 a12 a13 a14 a16 hi I hj
    refine pk_le 16 i (fun z => absurd z (by omega)) (fun _ => ?_)
    refine pc_ac (V' := V) (by omega) I (fun _ => rfl) (fun h => absurd rfl h) (fun _ _ => rfl) (fun n m r b1 b2 b3 b4 b5 b6 b7 b8 b9 b10 b11 b12 b13 b14 I => ?_)
    refine ⟨pk_in i 16 (by omega), ?_⟩
    rw [nI_clamp (show i < 2 ^ 31 by omega)]
    refine nm_e (nm_r (nI_1 i) (ih (i + 1) n m r 4 b1 b2 b3 b4 b5 b6 b7 b8 b9 b10 b11 b12 b13 b14 _ (by omega) I ?_))
    intro j h
    by_cases c : j = i
    · rw [c, pk_us]
    · rw [pk_un c]
      exact hj j (by omega)
theorem po_r31 {post : Int32 → St2 → Prop} {J15 : Int32 → (Nat → Int32) → (Nat → Int32) → (Nat → Int32) → (Nat → Int32) → (Nat → Int32) → (Nat → Int32) → (Nat → Int32) → (Nat → Int32) → (Nat → Int32) → (Nat → Int32) → (Nat → Int32) → (Nat → Int32) → (Nat → Int32) → (Nat → Int32) → (Nat → Int32) → (Nat → Int32) → Prop} {x x1 v : Int32} {i : Nat} (hi : i < 16)
    (HJ : ∀ a16, po_srt a16 (i + 1) → po_one x a16 → J15 (nI (i + 1)) a1 a2 a3 a4 a5 a6 a7 a8 a9 a10 a11 a12 a13 a14 a15 a16) :
    ∀ (t : Nat) (a16 : Nat → Int32), t ≤ i → po_hole x v a16 i t → wX_ranked_31 post J15 x1 (nI i) v f0_stashed f0_mapStashed f0_random f0_key f0_touchedNow (t + 1) (nI t) a1 a2 a3 a4 a5 a6 a7 a8 a9 a10 a11 a12 a13 a14 a15 a16 := by
  intro t
  induction t with
  | zero =>
    intro a16 ht h
    refine br_t (show nI 0 ≤ 0 by decide) ⟨pk_in 0 16 (by omega), ?_⟩
    rw [nI_clamp (show 0 < 2 ^ 31 by omega)]
    exact nm_e (nm_r (nI_1 i) (HJ _ (po_done h ht (fun q e => absurd e (by omega))) h.2.2))
  | succ q ih =>
    intro a16 ht h
    refine br_f (nI_nle (by omega) (by omega)) ?_
    rw [nI_pred, nI_clamp (show q < 2 ^ 31 by omega), nI_clamp (show q + 1 < 2 ^ 31 by omega)]
    refine ⟨pk_in q 16 (by omega), br_c (fun z => ⟨pk_in (q + 1) 16 (by omega), nm_e (nm_r (nI_1 i) (HJ _ (po_done h ht ?_) h.2.2))⟩) (fun z => ⟨pk_in q 16 (by omega), pk_in (q + 1) 16 (by omega), nm_e (nm_r (pk_m1 q) (ih _ (by omega) (po_shift h hi ht z)))⟩)⟩
    intro q' e
    have : q' = q := by omega
    rw [this]
    exact z
theorem po_r15 {post : Int32 → St2 → Prop} {x : Int32} {k : Nat} (hk : k < 16) (H : ∀ a16, post (po_du x (nI k)) (f0_stashed, f0_mapStashed, f0_random, f0_key, f0_touchedNow, a1, a2, a3, a4, a5, a6, a7, a8, a9, a10, a11, a12, a13, a14, a15, a16)) :
    ∀ (d i : Nat) (a16 : Nat → Int32), i + d = 16 → po_srt a16 i → po_one x a16 → wX_ranked_15 post (nI k) f0_stashed f0_mapStashed f0_random f0_key f0_touchedNow (d + 1) (nI i) a1 a2 a3 a4 a5 a6 a7 a8 a9 a10 a11 a12 a13 a14 a15 a16 := by
  intro d
  induction d with
  | zero =>
    intro i a16 hi hs ho
    have hi4 : i = 16 := by omega
    rw [hi4] at hs
    refine pk_le 16 i (fun _ => ⟨pk_in k 16 hk, ?_⟩) (fun z => absurd z (by omega))
    rw [nI_clamp (show k < 2 ^ 31 by omega), po_due hs ho hk]
    exact H a16
  | succ d ih =>
    intro i a16 hi hs ho
    refine pk_le 16 i (fun z => absurd z (by omega)) (fun _ => ⟨pk_in i 16 (by omega), nm_r (congrArg a16 (nI_clamp (show i < 2 ^ 31 by omega))) ⟨i + 1, ?_⟩⟩)
    refine po_r31 (x := x) (by omega) ?_ i a16 (Nat.le_refl i) ?_
    · intro b16 hs2 ho2
      exact ih (i + 1) b16 (by omega) hs2 ho2
    · refine ⟨fun j k hjk hk hj hk' => hs j k hjk (by omega), fun k hk hk2 => absurd hk (by omega), po_one_ext ho (fun j hj => ?_)⟩
      by_cases c : j = i
      · rw [c, pk_us]
      · rw [pk_un c]
theorem po_rk {post : Int32 → St2 → Prop} {n m : Nat} {x : Int32} (k : Int32) (I : po_I n m f0_key a1 a2 a3 a4 a5 a6 a7 a8 a9 a10 a11 a12 a13 a14 V) (ho : po_one x V) (H : ∀ s, post (po_du x k) s) : wpX_ranked post (nI n, nI m, f0_random, f0_key, f0_touchedNow, a1, a2, a3, a4, a5, a6, a7, a8, a9, a10, a11, a12, a13, a14, a15, a16) k := by
  unfold wpX_ranked
  rcases pk_ix k (n := 16) (by decide) with h | h | ⟨j, hj, rfl⟩
  · refine po_isn (Or.inl h) (br_t rfl ?_)
    have e : po_du x k = 0 := if_neg (fun z => by
      rcases z with ⟨z, _⟩ | ⟨z, _⟩
      · rw [z] at h
        exact absurd h (by decide)
      · rw [z] at h
        exact absurd h (by decide))
    have H' := H (nI n, nI m, f0_random, f0_key, f0_touchedNow, a1, a2, a3, a4, a5, a6, a7, a8, a9, a10, a11, a12, a13, a14, a15, a16)
    rw [e] at H'
    exact H'
  · refine po_isn (Or.inr h) (br_t rfl ?_)
    have e : po_du x k = 0 := if_neg (fun z => by
      rcases z with ⟨z, _⟩ | ⟨z, _⟩
      · rw [z] at h
        exact absurd h (by decide)
      · rw [z] at h
        exact absurd h (by decide))
    have H' := H (nI n, nI m, f0_random, f0_key, f0_touchedNow, a1, a2, a3, a4, a5, a6, a7, a8, a9, a10, a11, a12, a13, a14, a15, a16)
    rw [e] at H'
    exact H'
  · refine po_isb hj (br_f (by decide) ?_)
    refine ⟨16 + 1, po_ga2 (fun n m r t b1 b2 b3 b4 b5 b6 b7 b8 b9 b10 b11 b12 b13 b14 b16 I hb => ?_) 16 0 n m f0_random f0_touchedNow a1 a2 a3 a4 a5 a6 a7 a8 a9 a10 a11 a12 a13 a14 a16 rfl I (fun j h => absurd h (by omega))⟩
    refine ⟨15 + 1, po_r15 (x := x) hj (fun a16 => H _) 15 1 b16 rfl ?_ (po_one_ext ho hb)⟩
    intro p q h1 h2
    have e1 : p = 0 := by omega
    have e2 : q = 0 := by omega
    rw [e1, e2]
    exact Int32.le_refl _
end
end
section
/-! ===== the law ===== -/
section
variable {f0_stashed f0_mapStashed f0_random f0_key f0_touchedNow : Int32} {a1 a2 a3 a4 a5 a6 a7 a8 a9 a10 a11 a12 a13 a14 a15 a16 : Nat → Int32} {V : Nat → Int32} {post : Int32 → St0 → Prop} {mc ms kc ks n m : Nat} {x : Int32}
theorem po_148 {x4 z0 : Int32} (I : po_I n m f0_key a1 a2 a3 a4 a5 a6 a7 a8 a9 a10 a11 a12 a13 a14 V) (ho : po_one x V) (hz : z0 = po_du x x4) (hp : post 1 ()) :
    wL_lawOf_148 post mc ms x4 z0 kc ks (nI n) (nI m) f0_random f0_key f0_touchedNow a1 a2 a3 a4 a5 a6 a7 a8 a9 a10 a11 a12 a13 a14 a15 a16 := by
  unfold wL_lawOf_148
  exact po_rk x4 I ho (fun s => br_t hz.symm hp)
theorem po_130 {x4 : Int32} (I : po_I n m f0_key a1 a2 a3 a4 a5 a6 a7 a8 a9 a10 a11 a12 a13 a14 V) (ho : po_one x V) (h : ¬ (x4 = 0 ∧ x < 0)) (hp : post 1 ()) :
    wL_lawOf_130 post mc ms x4 x kc ks (nI n) (nI m) f0_random f0_key f0_touchedNow a1 a2 a3 a4 a5 a6 a7 a8 a9 a10 a11 a12 a13 a14 a15 a16 := by
  refine br_c (fun e => br_c (fun e2 => ?_) (fun e2 => ?_)) (fun e => ?_)
  · unfold wL_lawOf_147
    exact po_148 I ho (if_neg (fun z => z.elim h (fun w => w.2 e2))).symm hp
  · unfold wL_lawOf_142
    exact po_148 I ho (if_pos (Or.inr ⟨e, e2⟩)).symm hp
  · unfold wL_lawOf_147
    exact po_148 I ho (if_neg (fun z => z.elim h (fun w => e w.1))).symm hp
theorem po_read {post : Int32 → St2 → Prop} {b : Nat} (hb : b < 16) (I : po_I n m f0_key a1 a2 a3 a4 a5 a6 a7 a8 a9 a10 a11 a12 a13 a14 V)
    (H : ∀ (n m : Nat) (r : Int32) (a1 a2 a3 a4 a5 a6 a7 a8 a9 a10 a11 a12 a13 a14 : Nat → Int32), po_I n m f0_key a1 a2 a3 a4 a5 a6 a7 a8 a9 a10 a11 a12 a13 a14 V → post (V b) (nI n, nI m, r, f0_key, 4, a1, a2, a3, a4, a5, a6, a7, a8, a9, a10, a11, a12, a13, a14, a15, a16)) :
    wpX_read post (nI n, nI m, f0_random, f0_key, f0_touchedNow, a1, a2, a3, a4, a5, a6, a7, a8, a9, a10, a11, a12, a13, a14, a15, a16) (nI b) := by
  unfold wpX_read
  exact po_isb hb (br_f (by decide) (po_ac (V' := V) hb I (fun _ => rfl) (fun h => absurd rfl h) (fun _ _ => rfl) (fun n m r b1 b2 b3 b4 b5 b6 b7 b8 b9 b10 b11 b12 b13 b14 I => H n m r b1 b2 b3 b4 b5 b6 b7 b8 b9 b10 b11 b12 b13 b14 I)))
theorem po_readN {post : Int32 → St2 → Prop} {b : Int32} {s : St2} (hb : b < 0 ∨ 16 ≤ b) (H : post 0 s) : wpX_read post s b := by
  obtain ⟨g1, g2, g3, g4, g5, a1, a2, a3, a4, a5, a6, a7, a8, a9, a10, a11, a12, a13, a14, a15, a16⟩ := s
  unfold wpX_read
  exact po_isn hb (br_t rfl H)
theorem po_writeG {post : Int32 → St2 → Prop} {b : Nat} {v : Int32} (hb : b < 16) (I : po_I n m f0_key a1 a2 a3 a4 a5 a6 a7 a8 a9 a10 a11 a12 a13 a14 V)
    (H : ∀ (n m : Nat) (r : Int32) (a1 a2 a3 a4 a5 a6 a7 a8 a9 a10 a11 a12 a13 a14 : Nat → Int32), po_I n m f0_key a1 a2 a3 a4 a5 a6 a7 a8 a9 a10 a11 a12 a13 a14 (po_u V b v) → post 0 (nI n, nI m, r, f0_key, 4, a1, a2, a3, a4, a5, a6, a7, a8, a9, a10, a11, a12, a13, a14, a15, a16)) :
    wpX_write post (nI n, nI m, f0_random, f0_key, f0_touchedNow, a1, a2, a3, a4, a5, a6, a7, a8, a9, a10, a11, a12, a13, a14, a15, a16) (nI b) v := by
  unfold wpX_write
  exact po_isb hb (br_f (by decide) (po_ac (V' := po_u V b v) hb I (fun h => absurd h (by decide)) (fun _ => po_us) (fun _ h => po_un h) (fun n m r b1 b2 b3 b4 b5 b6 b7 b8 b9 b10 b11 b12 b13 b14 I => H n m r b1 b2 b3 b4 b5 b6 b7 b8 b9 b10 b11 b12 b13 b14 I)))
theorem po_writeN {post : Int32 → St2 → Prop} {b v : Int32} {s : St2} (hb : b < 0 ∨ 16 ≤ b) (H : post (-1) s) : wpX_write post s b v := by
  obtain ⟨g1, g2, g3, g4, g5, a1, a2, a3, a4, a5, a6, a7, a8, a9, a10, a11, a12, a13, a14, a15, a16⟩ := s
  unfold wpX_write
  exact po_isn hb (br_t rfl H)
theorem po_addG {post : Int32 → St2 → Prop} {b : Nat} {v : Int32} (hb : b < 16) (I : po_I n m f0_key a1 a2 a3 a4 a5 a6 a7 a8 a9 a10 a11 a12 a13 a14 V)
    (H : ∀ (n m : Nat) (r : Int32) (a1 a2 a3 a4 a5 a6 a7 a8 a9 a10 a11 a12 a13 a14 : Nat → Int32), po_I n m f0_key a1 a2 a3 a4 a5 a6 a7 a8 a9 a10 a11 a12 a13 a14 (po_u V b (V b + v)) → post (V b + v) (nI n, nI m, r, f0_key, 4, a1, a2, a3, a4, a5, a6, a7, a8, a9, a10, a11, a12, a13, a14, a15, a16)) :
    wpX_add post (nI n, nI m, f0_random, f0_key, f0_touchedNow, a1, a2, a3, a4, a5, a6, a7, a8, a9, a10, a11, a12, a13, a14, a15, a16) (nI b) v := by
  unfold wpX_add
  refine po_isb hb (br_f (by decide) (po_ac (V' := V) hb I (fun _ => rfl) (fun h => absurd rfl h) (fun _ _ => rfl) (fun n m r b1 b2 b3 b4 b5 b6 b7 b8 b9 b10 b11 b12 b13 b14 I => ?_)))
  refine nm_e ?_
  exact po_ac (V' := po_u V b (V b + v)) hb I (fun h => absurd h (by decide)) (fun _ => po_us) (fun _ h => po_un h) (fun n m r c1 c2 c3 c4 c5 c6 c7 c8 c9 c10 c11 c12 c13 c14 I => H n m r c1 c2 c3 c4 c5 c6 c7 c8 c9 c10 c11 c12 c13 c14 I)
theorem po_addN {post : Int32 → St2 → Prop} {b v : Int32} {s : St2} (hb : b < 0 ∨ 16 ≤ b) (H : post 0 s) : wpX_add post s b v := by
  obtain ⟨g1, g2, g3, g4, g5, a1, a2, a3, a4, a5, a6, a7, a8, a9, a10, a11, a12, a13, a14, a15, a16⟩ := s
  unfold wpX_add
  exact po_isn hb (br_t rfl H)
/-- behind the reading: what is due -/
theorem po_tail {x4 : Int32} (I : po_I n m f0_key a1 a2 a3 a4 a5 a6 a7 a8 a9 a10 a11 a12 a13 a14 V) (ho : po_one x V) (hp : post 1 ()) :
    (x4 = 0 → ((x < 0 → wL_lawOf_142 post mc ms x4 x kc ks (nI n) (nI m) f0_random f0_key f0_touchedNow a1 a2 a3 a4 a5 a6 a7 a8 a9 a10 a11 a12 a13 a14 a15 a16) ∧ (¬ x < 0 → wL_lawOf_130 post mc ms x4 x kc ks (nI n) (nI m) f0_random f0_key f0_touchedNow a1 a2 a3 a4 a5 a6 a7 a8 a9 a10 a11 a12 a13 a14 a15 a16))) ∧ (¬ x4 = 0 → wL_lawOf_130 post mc ms x4 x kc ks (nI n) (nI m) f0_random f0_key f0_touchedNow a1 a2 a3 a4 a5 a6 a7 a8 a9 a10 a11 a12 a13 a14 a15 a16) := by
  refine br_c (fun e => br_c (fun e2 => ?_) (fun e2 => ?_)) (fun e => ?_)
  · unfold wL_lawOf_142
    exact po_148 I ho (if_pos (Or.inl ⟨e, e2⟩)).symm hp
  · exact po_130 I ho (fun z => e2 z.2) hp
  · exact po_130 I ho (fun z => e z.1) hp
theorem po_102G {x4 z : Int32} {b : Nat} (hb : b < 16) (I : po_I n m f0_key a1 a2 a3 a4 a5 a6 a7 a8 a9 a10 a11 a12 a13 a14 V) (ho : po_one x V) (hV : V b = x) (hp : post 1 ()) :
    wL_lawOf_102 post mc ms (nI b) x4 x z z kc ks (nI n) (nI m) f0_random f0_key f0_touchedNow a1 a2 a3 a4 a5 a6 a7 a8 a9 a10 a11 a12 a13 a14 a15 a16 := by
  refine br_t rfl (po_read hb I (fun n m r b1 b2 b3 b4 b5 b6 b7 b8 b9 b10 b11 b12 b13 b14 I => ?_))
  exact br_t hV (po_tail I ho hp)
theorem po_102N {x1 x4 z : Int32} (hb : x1 < 0 ∨ 16 ≤ x1) (I : po_I n m f0_key a1 a2 a3 a4 a5 a6 a7 a8 a9 a10 a11 a12 a13 a14 V) (ho : po_one 0 V) (hp : post 1 ()) :
    wL_lawOf_102 post mc ms x1 x4 0 z z kc ks (nI n) (nI m) f0_random f0_key f0_touchedNow a1 a2 a3 a4 a5 a6 a7 a8 a9 a10 a11 a12 a13 a14 a15 a16 := by
  refine br_t rfl (po_readN hb ?_)
  exact br_t rfl (po_tail I ho hp)
theorem po_71N {x1 x3 x4 : Int32} (hb : x1 < 0 ∨ 16 ≤ x1) (I : po_I n m f0_key a1 a2 a3 a4 a5 a6 a7 a8 a9 a10 a11 a12 a13 a14 V) (ho : po_one 0 V) (hp : post 1 ()) :
    wL_lawOf_71 post mc ms x1 x3 x4 0 0 kc ks (nI n) (nI m) f0_random f0_key 0 a1 a2 a3 a4 a5 a6 a7 a8 a9 a10 a11 a12 a13 a14 a15 a16 := by
  unfold wL_lawOf_71
  refine po_addN hb ?_
  refine br_t rfl ?_
  exact br_t rfl (po_102N hb I ho hp)
theorem po_71G {x3 x4 x2 : Int32} {b : Nat} (hb : b < 16) (I : po_I n m f0_key a1 a2 a3 a4 a5 a6 a7 a8 a9 a10 a11 a12 a13 a14 (po_u (fun _ => 0) b x2)) (hp : post 1 ()) :
    wL_lawOf_71 post mc ms (nI b) x3 x4 1 (x2 + x3) kc ks (nI n) (nI m) f0_random f0_key f0_touchedNow a1 a2 a3 a4 a5 a6 a7 a8 a9 a10 a11 a12 a13 a14 a15 a16 := by
  unfold wL_lawOf_71
  have e : po_u (fun _ => (0 : Int32)) b x2 b + x3 = x2 + x3 := by rw [po_us]
  refine po_addG hb I (fun n m r b1 b2 b3 b4 b5 b6 b7 b8 b9 b10 b11 b12 b13 b14 I => ?_)
  rw [e] at I ⊢
  refine br_t rfl ?_
  refine br_f (by decide) ?_
  refine po_102G hb I ⟨b, hb, po_us, fun j hj hne => ?_⟩ po_us hp
  rw [po_un hne, po_un hne]
theorem po_35N {x1 x2 x3 x4 : Int32} (hb : x1 < 0 ∨ 16 ≤ x1) (I : po_I n m f0_key a1 a2 a3 a4 a5 a6 a7 a8 a9 a10 a11 a12 a13 a14 (fun _ => 0)) (hp : post 1 ()) :
    wL_lawOf_35 post mc ms x1 x2 x3 x4 0 kc ks (nI n) (nI m) f0_random f0_key 0 a1 a2 a3 a4 a5 a6 a7 a8 a9 a10 a11 a12 a13 a14 a15 a16 := by
  unfold wL_lawOf_35
  refine po_writeN hb ?_
  refine br_t rfl ?_
  refine br_t rfl (br_t rfl ?_)
  exact po_71N hb I ⟨0, by decide, rfl, fun _ _ _ => rfl⟩ hp
theorem po_35G {x2 x3 x4 : Int32} {b : Nat} (hb : b < 16) (I : po_I n m f0_key a1 a2 a3 a4 a5 a6 a7 a8 a9 a10 a11 a12 a13 a14 (fun _ => 0)) (hp : post 1 ()) :
    wL_lawOf_35 post mc ms (nI b) x2 x3 x4 1 kc ks (nI n) (nI m) f0_random f0_key f0_touchedNow a1 a2 a3 a4 a5 a6 a7 a8 a9 a10 a11 a12 a13 a14 a15 a16 := by
  unfold wL_lawOf_35
  refine po_writeG hb I (fun n m r b1 b2 b3 b4 b5 b6 b7 b8 b9 b10 b11 b12 b13 b14 I => ?_)
  refine br_f (by decide) ?_
  refine br_t rfl (br_f (by decide) ?_)
  exact po_71G hb I hp
end
theorem po_law {post : Int32 → St0 → Prop} {mc ms : Nat} {p0 p1 p2 p3 p4 : Int32} (hmc : 17 ≤ mc) (hms : 389 ≤ ms) (hp : post 1 ()) : wpL_lawOf post mc ms () p0 p1 p2 p3 p4 := by
  refine ⟨by omega, by omega, 16, 368, by omega, by omega, ?_⟩
  refine po_init (by omega) (by omega) (fun n m r k a1 a2 a3 a4 a5 a6 a7 a8 a9 a10 a11 a12 a13 a14 a15 a16 I => ?_)
  refine br_t rfl ?_
  rcases pk_ix p1 (n := 16) (by decide) with h | h | ⟨j, hj, rfl⟩
  · refine br_t h ?_
    unfold wL_lawOf_34
    exact po_35N (Or.inl h) I hp
  · have h1 : ¬ p1 < 0 := fun z => absurd (Int32.lt_of_le_of_lt h z) (by decide)
    have h2 : 15 < p1 := Int32.lt_of_lt_of_le (show (15 : Int32) < nI 16 by decide) h
    refine br_f h1 (br_t h2 ?_)
    unfold wL_lawOf_34
    exact po_35N (Or.inr h) I hp
  · refine br_f (nI_pos (by omega)) (br_f (nI_nlt (a := 15) (b := j) (by omega) (by omega)) ?_)
    exact po_35G hj I hp
theorem po_cell {post : Int32 → Prop} {L : Nat} {xs : Nat → Int32} {i : Nat} (hL : L ≤ 5) (hi : i < 5) (H : ∀ v, post v) : wpL_cellAt post L xs () (nI i) :=
  pk_le L i (fun _ => H _) (fun z => ⟨pk_in i L z, H _⟩)
theorem i_vc (xs : Nat → Int32) (L : Nat) (hL : L ≤ 5) : wpL_law (fun r => r = 1) L xs := by
  unfold wpL_law
  refine po_cell (i := 0) hL (by omega) (fun v0 => ?_)
  refine po_cell (i := 1) hL (by omega) (fun v1 => ?_)
  refine po_cell (i := 2) hL (by omega) (fun v2 => ?_)
  refine po_cell (i := 3) hL (by omega) (fun v3 => ?_)
  refine po_cell (i := 4) hL (by omega) (fun v4 => ?_)
  exact ⟨228, 3648, by omega, by omega, po_law (by omega) (by omega) rfl⟩
end
