section
/-! the store, in plain Lean: N blocks, the slots lo .. hi - 1, a stash of s places behind them; loc b: the place of block b -/
theorem po_len : ∀ (l m : List Nat), l.Nodup → (∀ a, a ∈ l → a ∈ m) → l.length ≤ m.length := by
  intro l
  induction l with
  | nil => intro m _ _; exact Nat.zero_le _
  | cons a l ih =>
    intro m hn hs
    have ha : a ∈ m := hs a List.mem_cons_self
    have hn' := List.nodup_cons.mp hn
    have h := ih (m.erase a) hn'.2 (fun b hb => (List.mem_erase_of_ne (fun e => hn'.1 (by rw [← e]; exact hb))).mpr (hs b (List.mem_cons_of_mem a hb)))
    have hl := List.length_erase_of_mem ha
    have hp : 0 < m.length := List.length_pos_of_mem ha
    rw [List.length_cons]
    omega
theorem po_ph {N c s : Nat} {loc : Nat → Nat} (h : ∀ i, i < s → ∃ b, b < N ∧ loc b = c + i) : s ≤ N := by
  have h1 := po_len (List.range' c s) ((List.range N).map loc) List.nodup_range' (fun a ha => by
    have ha' := List.mem_range'_1.mp ha
    obtain ⟨b, hb, e⟩ := h (a - c) (by omega)
    exact List.mem_map.mpr ⟨b, List.mem_range.mpr hb, by omega⟩)
  rw [List.length_range', List.length_map, List.length_range] at h1
  exact h1
theorem po_ph1 {N c s j : Nat} {loc : Nat → Nat} (h : ∀ i, i < s → ∃ b, b < N ∧ loc b = c + i) (hj : j < c) (h2 : ∃ b, b < N ∧ loc b = j) : s < N := by
  have h1 := po_len (j :: List.range' c s) ((List.range N).map loc) (List.nodup_cons.mpr ⟨fun z => absurd (List.mem_range'_1.mp z).1 (by omega), List.nodup_range'⟩) (fun a ha => by
    rcases List.mem_cons.mp ha with e | ha
    · obtain ⟨b, hb, e2⟩ := h2
      exact List.mem_map.mpr ⟨b, List.mem_range.mpr hb, by omega⟩
    · have ha' := List.mem_range'_1.mp ha
      obtain ⟨b, hb, e⟩ := h (a - c) (by omega)
      exact List.mem_map.mpr ⟨b, List.mem_range.mpr hb, by omega⟩)
  rw [List.length_cons, List.length_range', List.length_map, List.length_range] at h1
  exact h1
theorem po_m1 {b : Nat} (h : b < 16) : nI b ≠ -1 := by
  have : ∀ b, b < 16 → nI b ≠ -1 := by decide +kernel
  exact this b h
theorem po_inj {a b : Nat} (ha : a < 16) (hb : b < 16) (e : nI a = nI b) : a = b := (nI_eq (by omega) (by omega)).mp e
def po_T (N lo hi : Nat) (on : Nat → Nat → Prop) (pd ow cl tg so sc st : Nat → Int32) (s : Nat) (lf : Nat → Nat) (V : Nat → Int32) (loc : Nat → Nat) : Prop :=
  (∀ b, b < N → (lo ≤ loc b ∧ loc b < hi ∧ ow (loc b) = nI b ∧ cl (loc b) ^^^ pd (loc b) = V b ∧ tg (loc b) = nI (lf b) ∧ on (lf b) (loc b)) ∨ (hi ≤ loc b ∧ loc b < hi + s ∧ so (loc b - hi) = nI b ∧ sc (loc b - hi) = V b ∧ st (loc b - hi) = nI (lf b))) ∧
  (∀ j, lo ≤ j → j < hi → ow j ≠ -1 → ∃ b, b < N ∧ loc b = j) ∧
  (∀ i, i < s → ∃ b, b < N ∧ loc b = hi + i)
def po_S (N lo hi : Nat) (on : Nat → Nat → Prop) (pd ow cl tg so sc st : Nat → Int32) (s : Nat) (lf : Nat → Nat) (V : Nat → Int32) : Prop :=
  ∃ loc, po_T N lo hi on pd ow cl tg so sc st s lf V loc
theorem po_le {N lo hi : Nat} {on : Nat → Nat → Prop} {pd ow cl tg so sc st : Nat → Int32} {s : Nat} {lf : Nat → Nat} {V : Nat → Int32} (h : po_S N lo hi on pd ow cl tg so sc st s lf V) : s ≤ N := by
  obtain ⟨loc, _, _, h3⟩ := h
  exact po_ph h3
theorem po_room {N lo hi : Nat} {on : Nat → Nat → Prop} {pd ow cl tg so sc st : Nat → Int32} {s : Nat} {lf : Nat → Nat} {V : Nat → Int32} (h : po_S N lo hi on pd ow cl tg so sc st s lf V) {j : Nat} (hj : lo ≤ j) (hj2 : j < hi) (ho : ow j ≠ -1) : s < N := by
  obtain ⟨loc, _, h2, h3⟩ := h
  exact po_ph1 h3 hj2 (h2 j hj hj2 ho)
/-- a slot's block goes to the end of the stash -/
theorem po_take {N lo hi : Nat} {on : Nat → Nat → Prop} {pd ow cl tg so sc st : Nat → Int32} {s : Nat} {lf : Nat → Nat} {V : Nat → Int32} (h : po_S N lo hi on pd ow cl tg so sc st s lf V) {j : Nat} (hj : lo ≤ j) (hj2 : j < hi) (ho : ow j ≠ -1) :
    po_S N lo hi on pd (upd ow j (-1)) cl tg (upd so s (ow j)) (upd sc s (cl j ^^^ pd j)) (upd st s (tg j)) (s + 1) lf V := by
  obtain ⟨loc, h1, h2, h3⟩ := h
  refine ⟨fun b => if loc b = j then hi + s else loc b, fun b hb => ?_, fun j' l1 l2 l3 => ?_, fun i hi' => ?_⟩
  · by_cases e : loc b = j
    · right
      simp only [if_pos e]
      rcases h1 b hb with g | g
      · obtain ⟨_, _, g3, g4, g5, _⟩ := g
        rw [e] at g3 g4 g5
        have es : hi + s - hi = s := by omega
        rw [es, pk_us, pk_us, pk_us]
        exact ⟨by omega, by omega, g3, g4, g5⟩
      · omega
    · simp only [if_neg e]
      rcases h1 b hb with g | g
      · left
        rw [pk_un e]
        exact g
      · right
        obtain ⟨g1, g2, g3, g4, g5⟩ := g
        have ne : loc b - hi ≠ s := by omega
        rw [pk_un ne, pk_un ne, pk_un ne]
        exact ⟨g1, by omega, g3, g4, g5⟩
  · have ne : j' ≠ j := fun e => l3 (by rw [e, pk_us])
    rw [pk_un ne] at l3
    obtain ⟨b, hb, e⟩ := h2 j' l1 l2 l3
    refine ⟨b, hb, ?_⟩
    show (if loc b = j then hi + s else loc b) = j'
    rw [if_neg (by omega)]
    exact e
  · by_cases e : i = s
    · obtain ⟨b, hb, eb⟩ := h2 j hj hj2 ho
      refine ⟨b, hb, ?_⟩
      show (if loc b = j then hi + s else loc b) = hi + i
      rw [if_pos eb, e]
    · obtain ⟨b, hb, eb⟩ := h3 i (by omega)
      refine ⟨b, hb, ?_⟩
      show (if loc b = j then hi + s else loc b) = hi + i
      rw [if_neg (by omega)]
      exact eb
/-- a stashed block settles in an empty slot of its path, the last of the stash goes into the gap -/
theorem po_settle {N lo hi : Nat} {on : Nat → Nat → Prop} {pd ow cl tg so sc st : Nat → Int32} {s : Nat} {lf : Nat → Nat} {V : Nat → Int32} (hN : N ≤ 16) (h : po_S N lo hi on pd ow cl tg so sc st s lf V) {i j : Nat} (hj : lo ≤ j) (hj2 : j < hi) (ho : ow j = -1) (hi1 : i < s) (hf : ∀ b, b < N → st i = nI (lf b) → on (lf b) j) :
    po_S N lo hi on pd (upd ow j (so i)) (upd cl j (sc i ^^^ pd j)) (upd tg j (st i)) (upd so i (so (s - 1))) (upd sc i (sc (s - 1))) (upd st i (st (s - 1))) (s - 1) lf V := by
  obtain ⟨loc, h1, h2, h3⟩ := h
  refine ⟨fun b => if loc b = hi + i then j else if loc b = hi + (s - 1) then hi + i else loc b, fun b hb => ?_, fun j' l1 l2 l3 => ?_, fun k hk => ?_⟩
  · by_cases e : loc b = hi + i
    · left
      simp only [if_pos e]
      rcases h1 b hb with g | g
      · omega
      · obtain ⟨_, _, g3, g4, g5⟩ := g
        have es : loc b - hi = i := by omega
        rw [es] at g3 g4 g5
        rw [pk_us, pk_us, pk_us]
        refine ⟨hj, hj2, g3, ?_, g5, hf b hb g5⟩
        rw [← g4, Int32.xor_assoc, Int32.xor_self, Int32.xor_zero]
    · by_cases e2 : loc b = hi + (s - 1)
      · right
        simp only [if_neg e, if_pos e2]
        rcases h1 b hb with g | g
        · omega
        · obtain ⟨_, _, g3, g4, g5⟩ := g
          have es : loc b - hi = s - 1 := by omega
          have es2 : hi + i - hi = i := by omega
          rw [es] at g3 g4 g5
          rw [es2, pk_us, pk_us, pk_us]
          exact ⟨by omega, by omega, g3, g4, g5⟩
      · simp only [if_neg e, if_neg e2]
        rcases h1 b hb with g | g
        · left
          have ne : loc b ≠ j := fun z => po_m1 (show b < 16 by omega) (by rw [← g.2.2.1, z, ho])
          rw [pk_un ne, pk_un ne, pk_un ne]
          exact g
        · right
          obtain ⟨g1, g2, g3, g4, g5⟩ := g
          have ne : loc b - hi ≠ i := by omega
          rw [pk_un ne, pk_un ne, pk_un ne]
          exact ⟨g1, by omega, g3, g4, g5⟩
  · by_cases e : j' = j
    · obtain ⟨b, hb, eb⟩ := h3 i hi1
      refine ⟨b, hb, ?_⟩
      show (if loc b = hi + i then j else if loc b = hi + (s - 1) then hi + i else loc b) = j'
      rw [if_pos eb, e]
    · rw [pk_un e] at l3
      obtain ⟨b, hb, eb⟩ := h2 j' l1 l2 l3
      refine ⟨b, hb, ?_⟩
      show (if loc b = hi + i then j else if loc b = hi + (s - 1) then hi + i else loc b) = j'
      rw [if_neg (by omega), if_neg (by omega)]
      exact eb
  · by_cases e : k = i
    · obtain ⟨b, hb, eb⟩ := h3 (s - 1) (by omega)
      refine ⟨b, hb, ?_⟩
      show (if loc b = hi + i then j else if loc b = hi + (s - 1) then hi + i else loc b) = hi + k
      rw [if_neg (by omega), if_pos eb, e]
    · obtain ⟨b, hb, eb⟩ := h3 k (by omega)
      refine ⟨b, hb, ?_⟩
      show (if loc b = hi + i then j else if loc b = hi + (s - 1) then hi + i else loc b) = hi + k
      rw [if_neg (by omega), if_neg (by omega)]
      exact eb
/-- what stands in an empty slot, and its pad, don't matter -/
theorem po_frame {N lo hi : Nat} {on : Nat → Nat → Prop} {pd pd' ow cl cl' tg so sc st : Nat → Int32} {s : Nat} {lf : Nat → Nat} {V : Nat → Int32} (hN : N ≤ 16) (h : po_S N lo hi on pd ow cl tg so sc st s lf V) (hp : ∀ j, lo ≤ j → j < hi → ow j ≠ -1 → pd' j = pd j ∧ cl' j = cl j) :
    po_S N lo hi on pd' ow cl' tg so sc st s lf V := by
  obtain ⟨loc, h1, h2, h3⟩ := h
  refine ⟨loc, fun b hb => ?_, h2, h3⟩
  rcases h1 b hb with g | g
  · left
    obtain ⟨g1, g2, g3, g4, g5, g6⟩ := g
    have q := hp (loc b) g1 g2 (by rw [g3]; exact po_m1 (by omega))
    rw [q.1, q.2]
    exact ⟨g1, g2, g3, g4, g5, g6⟩
  · exact Or.inr g
def po_ul (f : Nat → Nat) (b t : Nat) : Nat → Nat := fun c => if c = b then t else f c
theorem po_uls {f : Nat → Nat} {b t : Nat} : po_ul f b t b = t := if_pos rfl
theorem po_uln {f : Nat → Nat} {b t c : Nat} (h : c ≠ b) : po_ul f b t c = f c := if_neg h
/-- the tag of a stash place is its block's -/
theorem po_tag {N lo hi : Nat} {on : Nat → Nat → Prop} {pd ow cl tg so sc st : Nat → Int32} {s : Nat} {lf : Nat → Nat} {V : Nat → Int32} (h : po_S N lo hi on pd ow cl tg so sc st s lf V) {i : Nat} (hi1 : i < s) : ∃ b, b < N ∧ st i = nI (lf b) := by
  obtain ⟨loc, h1, h2, h3⟩ := h
  obtain ⟨b, hb, e⟩ := h3 i hi1
  have es : loc b - hi = i := by omega
  rcases h1 b hb with g | g
  · omega
  · exact ⟨b, hb, by rw [← es]; exact g.2.2.2.2⟩
/-- value and tag of a stash place are changed -/
theorem po_change {N lo hi : Nat} {on : Nat → Nat → Prop} {pd ow cl tg so sc st : Nat → Int32} {s : Nat} {lf : Nat → Nat} {V : Nat → Int32} (hN : N ≤ 16) (h : po_S N lo hi on pd ow cl tg so sc st s lf V) {i b0 t : Nat} {v : Int32} (hb0 : b0 < N) (hi1 : i < s) (ho : so i = nI b0) :
    po_S N lo hi on pd ow cl tg so (upd sc i v) (upd st i (nI t)) s (po_ul lf b0 t) (upd V b0 v) := by
  obtain ⟨loc, h1, h2, h3⟩ := h
  have hl : loc b0 = hi + i := by
    obtain ⟨b, hb, e⟩ := h3 i hi1
    have es : loc b - hi = i := by omega
    rcases h1 b hb with g | g
    · omega
    · have g3 := g.2.2.1
      rw [es, ho] at g3
      have := po_inj (by omega) (by omega) g3
      rw [this]
      exact e
  refine ⟨loc, fun b hb => ?_, h2, h3⟩
  by_cases e : b = b0
  · right
    have es : hi + i - hi = i := by omega
    rw [e, hl, es, pk_us, pk_us, pk_us, po_uls]
    exact ⟨by omega, by omega, ho, rfl, rfl⟩
  · rw [pk_un e, po_uln e]
    rcases h1 b hb with g | g
    · exact Or.inl g
    · right
      obtain ⟨g1, g2, g3, g4, g5⟩ := g
      have ne : loc b - hi ≠ i := fun z => e (po_inj (by omega) (by omega) (by rw [← g3, z, ho]))
      rw [pk_un ne, pk_un ne]
      exact ⟨g1, g2, g3, g4, g5⟩
/-- a block whose path is empty is in the stash, once -/
theorem po_find {N lo hi : Nat} {on : Nat → Nat → Prop} {pd ow cl tg so sc st : Nat → Int32} {s : Nat} {lf : Nat → Nat} {V : Nat → Int32} (hN : N ≤ 16) (h : po_S N lo hi on pd ow cl tg so sc st s lf V) {b : Nat} (hb : b < N) (he : ∀ j, on (lf b) j → ow j = -1) :
    ∃ i, i < s ∧ so i = nI b ∧ sc i = V b ∧ (∀ q, q < s → q ≠ i → so q ≠ nI b) := by
  obtain ⟨loc, h1, h2, h3⟩ := h
  rcases h1 b hb with g | g
  · exact absurd (he _ g.2.2.2.2.2) (by rw [g.2.2.1]; exact po_m1 (by omega))
  · refine ⟨loc b - hi, by omega, g.2.2.1, g.2.2.2.1, fun q hq hne hz => ?_⟩
    obtain ⟨c, hc, e⟩ := h3 q hq
    have es : loc c - hi = q := by omega
    rcases h1 c hc with g' | g'
    · omega
    · have g3 := g'.2.2.1
      rw [es, hz] at g3
      have := po_inj (by omega) (by omega) g3
      rw [this] at hne
      omega
/-- the one place of a block, for the audit -/
theorem po_one {N lo hi : Nat} {on : Nat → Nat → Prop} {pd ow cl tg so sc st : Nat → Int32} {s : Nat} {lf : Nat → Nat} {V : Nat → Int32} (hN : N ≤ 16) (hlh0 : lo ≤ hi) (h : po_S N lo hi on pd ow cl tg so sc st s lf V) {b : Nat} (hb : b < N) :
    ∃ p, lo ≤ p ∧ p < hi + s ∧ (∀ j, lo ≤ j → j < hi → (ow j = nI b ↔ j = p)) ∧ (∀ i, i < s → (so i = nI b ↔ hi + i = p)) ∧ (p < hi → tg p = nI (lf b) ∧ on (lf b) p) ∧ (hi ≤ p → st (p - hi) = nI (lf b)) := by
  obtain ⟨loc, h1, h2, h3⟩ := h
  have hlo : lo ≤ loc b ∨ hi ≤ loc b := by
    rcases h1 b hb with g | g
    · exact Or.inl g.1
    · exact Or.inr g.1
  have A1 : ∀ j, lo ≤ j → j < hi → ow j = nI b → j = loc b := by
    intro j l1 l2 e
    obtain ⟨c, hc, ec⟩ := h2 j l1 l2 (by rw [e]; exact po_m1 (by omega))
    rcases h1 c hc with g | g
    · have g3 := g.2.2.1
      rw [ec, e] at g3
      rw [po_inj (by omega) (by omega) g3]
      exact ec.symm
    · omega
  have A2 : ∀ i, i < s → so i = nI b → hi + i = loc b := by
    intro i l1 e
    obtain ⟨c, hc, ec⟩ := h3 i l1
    have es : loc c - hi = i := by omega
    rcases h1 c hc with g | g
    · omega
    · have g3 := g.2.2.1
      rw [es, e] at g3
      rw [po_inj (by omega) (by omega) g3]
      exact ec.symm
  rcases h1 b hb with g | g
  · obtain ⟨g1, g2, g3, g4, g5, g6⟩ := g
    refine ⟨loc b, g1, by omega, fun j l1 l2 => ⟨A1 j l1 l2, fun e => by rw [e]; exact g3⟩, fun i l1 => ⟨A2 i l1, fun e => by omega⟩, fun _ => ⟨g5, g6⟩, fun z => by omega⟩
  · obtain ⟨g1, g2, g3, g4, g5⟩ := g
    by_cases hlh : lo ≤ loc b
    · refine ⟨loc b, hlh, by omega, fun j l1 l2 => ⟨A1 j l1 l2, fun e => by omega⟩, fun i l1 => ⟨A2 i l1, fun e => ?_⟩, fun z => by omega, fun _ => g5⟩
      have es : loc b - hi = i := by omega
      rw [es] at g3
      exact g3
    · omega
end
section
/-! bits, buckets, the pad -/
theorem po_oad (x y z : Int32) : (x ||| y) &&& z = (x &&& z) ||| (y &&& z) := by
  apply Int32.toBitVec_inj.1
  rw [Int32.toBitVec_and, Int32.toBitVec_or, Int32.toBitVec_or, Int32.toBitVec_and, Int32.toBitVec_and]
  ext i hi
  simp [Bool.and_or_distrib_right]
theorem po_aad (x y z : Int32) : (x &&& y) &&& z = (x &&& z) &&& (y &&& z) := by
  rw [Int32.and_assoc, Int32.and_assoc, Int32.and_comm z (y &&& z), Int32.and_assoc, Int32.and_self]
/-- field r of a packed word -/
def po_fd (r : Nat) (x : Int32) : Int32 := (x >>> (nI (3 * r) &&& 31)) &&& 7
theorem po_fd_or (r : Nat) (x y : Int32) : po_fd r (x ||| y) = po_fd r x ||| po_fd r y := by
  unfold po_fd
  rw [Int32.shiftRight_or, po_oad]
theorem po_fd_and (r : Nat) (x y : Int32) : po_fd r (x &&& y) = po_fd r x &&& po_fd r y := by
  unfold po_fd
  rw [Int32.shiftRight_and, po_aad]
theorem po_fd7 (r : Nat) (x : Int32) : po_fd r x &&& 7 = po_fd r x := by
  unfold po_fd
  rw [Int32.and_assoc, Int32.and_self]
theorem po_fd_0 (r : Nat) : po_fd r 0 = 0 := by
  unfold po_fd
  rw [Int32.zero_shiftRight, Int32.zero_and]
theorem po_fd_sh : ∀ r, r < 4 → ∀ q, q < 4 → ∀ n, n < 8 → po_fd r (nI n <<< (nI (3 * q) &&& 31)) = if r = q then nI n else 0 := by decide +kernel
theorem po_fd_mask : ∀ r, r < 4 → ∀ q, q < 4 → po_fd r (((7 : Int32) <<< (nI (3 * q) &&& 31)) ^^^ (-1)) = if r = q then 0 else 7 := by decide +kernel
theorem po_fd_set {r q n : Nat} (hr : r < 4) (hq : q < 4) (hn : n < 8) (x : Int32) : po_fd r ((x &&& (((7 : Int32) <<< (nI (3 * q) &&& 31)) ^^^ (-1))) ||| (nI n <<< (nI (3 * q) &&& 31))) = if r = q then nI n else po_fd r x := by
  rw [po_fd_or, po_fd_and, po_fd_sh r hr q hq n hn, po_fd_mask r hr q hq]
  by_cases e : r = q
  · rw [if_pos e, if_pos e, if_pos e, Int32.and_zero, Int32.zero_or]
  · rw [if_neg e, if_neg e, if_neg e, po_fd7, Int32.or_zero]
def po_bm (l lv : Nat) : Nat := (4 + l) / 2 ^ (2 - lv)
def po_bk (l lv : Nat) : Nat := (8 + l) / 2 ^ (3 - lv)
theorem po_mb : ∀ l, l < 4 → ∀ lv, lv < 3 → (4 + nI l) >>> ((2 - nI lv) &&& 31) = nI (po_bm l lv) := by decide +kernel
theorem po_kb : ∀ l, l < 8 → ∀ lv, lv < 4 → (8 + nI l) >>> ((3 - nI lv) &&& 31) = nI (po_bk l lv) := by decide +kernel
theorem po_bm_lt : ∀ l, l < 4 → ∀ lv, lv < 3 → 1 ≤ po_bm l lv ∧ po_bm l lv < 8 := by decide +kernel
theorem po_bk_lt : ∀ l, l < 8 → ∀ lv, lv < 4 → 1 ≤ po_bk l lv ∧ po_bk l lv < 16 := by decide +kernel
theorem po_bk_mono : ∀ l, l < 8 → ∀ lv, lv < 4 → ∀ lw, lw < 4 → lv < lw → po_bk l lv < po_bk l lw := by decide +kernel
def po_onm (l j : Nat) : Prop := ∃ lv, lv < 3 ∧ j / 2 = po_bm l lv
def po_on (l j : Nat) : Prop := ∃ lv, lv < 4 ∧ j / 4 = po_bk l lv
def po_mix (x : Int32) : Int32 :=
  (fun (z : Int32) => z ^^^ ((z.toUInt32 >>> ((16 : Int32).toUInt32 &&& Int32.toUInt32 31)).toInt32)) ((fun (y : Int32) => (y ^^^ ((y.toUInt32 >>> ((13 : Int32).toUInt32 &&& Int32.toUInt32 31)).toInt32)) * 1103515245) ((x ^^^ ((x.toUInt32 >>> ((15 : Int32).toUInt32 &&& Int32.toUInt32 31)).toInt32)) * 668265263))
def po_pd (ky : Int32) (vr : Nat → Int32) (j : Nat) : Int32 := po_mix ((ky + (nI j * 1640531527)) + ((vr (j / 4)) * 374761393))
theorem po_pd_up {ky : Int32} {vr : Nat → Int32} {b j : Nat} {x : Int32} (h : j / 4 ≠ b) : po_pd ky (upd vr b x) j = po_pd ky vr j := by
  unfold po_pd
  rw [pk_un h]
theorem po_j2 {j : Nat} (h : j < 64) : nI j >>> ((2 : Int32) &&& 31) = nI (j / 4) := pk_shrN (by omega) _ 2 (by decide)
theorem po_2B (B : Nat) : (2 * nI B + 2 : Int32) = nI (2 * B + 2) := by
  rw [show (2 : Int32) = nI 2 from rfl, pk_mul, nI_add]
theorem po_4B (B : Nat) : (4 * nI B + 4 : Int32) = nI (4 * B + 4) := by
  rw [show (4 : Int32) = nI 4 from rfl, pk_mul, nI_add]
theorem po_2m (B : Nat) : (2 * nI B : Int32) = nI (2 * B) := by
  rw [show (2 : Int32) = nI 2 from rfl, pk_mul]
theorem po_4m (B : Nat) : (4 * nI B : Int32) = nI (4 * B) := by
  rw [show (4 : Int32) = nI 4 from rfl, pk_mul]
theorem po_b3 : ∀ b, b < 16 → nI b >>> ((2 : Int32) &&& 31) = nI (b / 4) ∧ (3 : Int32) * (nI b &&& 3) = nI (3 * (b % 4)) := by decide +kernel
theorem po_and7 (x : Int32) : ∃ j : Nat, j < 8 ∧ x &&& 7 = nI j := pk_andE x 3 (by decide)
theorem po_and3 (x : Int32) : ∃ j : Nat, j < 4 ∧ x &&& 3 = nI j := pk_andE x 2 (by decide)
theorem po_and15 (x : Int32) : ∃ j : Nat, j < 16 ∧ x &&& 15 = nI j := pk_andE x 4 (by decide)
theorem po_and1 (x : Int32) : ∃ j : Nat, j < 2 ∧ x &&& 1 = nI j := pk_andE x 1 (by decide)
end
section
/-! the smaller tree: its walks -/
theorem po_mbk {post : Int32 → Prop} {l lv : Nat} (hl : l < 4) (hv : lv < 3) (H : post (nI (po_bm l lv))) : wpX_mapBucketAt post () (nI l) (nI lv) := by
  unfold wpX_mapBucketAt
  rw [po_mb l hl lv hv]
  exact H
def po_SM (ow cl tg so sc st : Nat → Int32) (k : Nat) (wl : Nat → Nat) (W : Nat → Int32) : Prop := po_S 4 2 16 po_onm (fun _ => 0) ow cl tg so sc st k wl W
theorem po_takeM {ow cl tg so sc st : Nat → Int32} {k : Nat} {wl : Nat → Nat} {W : Nat → Int32} (h : po_SM ow cl tg so sc st k wl W) {j : Nat} (hj : 2 ≤ j) (hj2 : j < 16) (ho : ow j ≠ -1) :
    po_SM (upd ow j (-1)) cl tg (upd so k (ow j)) (upd sc k (cl j)) (upd st k (tg j)) (k + 1) wl W := by
  have h' := po_take h hj hj2 ho
  unfold po_SM
  simpa only [Int32.xor_zero] using h'
theorem po_settleM {ow cl tg so sc st : Nat → Int32} {k : Nat} {wl : Nat → Nat} {W : Nat → Int32} (h : po_SM ow cl tg so sc st k wl W) {i j : Nat} (hj : 2 ≤ j) (hj2 : j < 16) (ho : ow j = -1) (hi1 : i < k) (hf : ∀ b, b < 4 → st i = nI (wl b) → po_onm (wl b) j) :
    po_SM (upd ow j (so i)) (upd cl j (sc i)) (upd tg j (st i)) (upd so i (so (k - 1))) (upd sc i (sc (k - 1))) (upd st i (st (k - 1))) (k - 1) wl W := by
  have h' := po_settle (by omega) h hj hj2 ho hi1 hf
  unfold po_SM
  simpa only [Int32.xor_zero] using h'
theorem po_rm18 {post : St2 → Prop} {J2 : Int32 → Int32 → (Nat → Int32) → (Nat → Int32) → (Nat → Int32) → (Nat → Int32) → (Nat → Int32) → (Nat → Int32) → (Nat → Int32) → (Nat → Int32) → (Nat → Int32) → (Nat → Int32) → (Nat → Int32) → (Nat → Int32) → (Nat → Int32) → (Nat → Int32) → (Nat → Int32) → (Nat → Int32) →  Prop} {x1 x2 s rn ky tn : Int32} {B : Nat} (hB0 : 1 ≤ B) (hB : B < 8) {wl : Nat → Nat} {W : Nat → Int32} :
    ∀ (n j k : Nat) (a1 a2 a3 a4 a5 a6 a7 a8 a9 a10 a11 a12 a13 a14 a15 a16 : Nat → Int32), 2 * B ≤ j → j ≤ 2 * B + 2 → 2 * B + 2 - j < n → po_SM a8 a9 a10 a11 a12 a13 k wl W →
    (∀ i, i / 2 = B → i < j → a8 i = -1) →
    (∀ (k' : Nat) (a8' a11' a12' a13' : Nat → Int32), po_SM a8' a9 a10 a11' a12' a13' k' wl W → (∀ i, i / 2 = B → a8' i = -1) → (∀ i, a8 i = -1 → a8' i = -1) → J2 (x2 + 1) (nI k') a1 a2 a3 a4 a5 a6 a7 a8' a9 a10 a11' a12' a13' a14 a15 a16) →
    wX_readMapPath_18 post J2 x1 x2 (nI B) s rn ky tn n (nI j) (nI k) a1 a2 a3 a4 a5 a6 a7 a8 a9 a10 a11 a12 a13 a14 a15 a16 := by
  intro n
  induction n with
  | zero => intro j k a1 a2 a3 a4 a5 a6 a7 a8 a9 a10 a11 a12 a13 a14 a15 a16 h1 h2 h3; omega
  | succ n ih =>
    intro j k a1 a2 a3 a4 a5 a6 a7 a8 a9 a10 a11 a12 a13 a14 a15 a16 h1 h2 h3 hS hE H
    have hk := po_le hS
    refine pk_le (2 * B + 2) j (fun z => nm_e (H k a8 a11 a12 a13 hS (fun i h => hE i h (by omega)) (fun i h => h))) (fun z => ⟨pk_in j 16 (by omega), ?_⟩) (po_2B B)
    rw [nI_clamp (show j < 2 ^ 31 by omega)]
    refine br_c (fun e => nm_r (nI_1 j) ?_) (fun e => ?_)
    · refine ih (j + 1) k a1 a2 a3 a4 a5 a6 a7 a8 a9 a10 a11 a12 a13 a14 a15 a16 (by omega) (by omega) (by omega) hS (fun i i1 i2 => ?_) H
      by_cases q : i = j
      · rw [q]
        exact e
      · exact hE i i1 (by omega)
    · have hr := po_room hS (show 2 ≤ j by omega) (show j < 16 by omega) e
      refine pk_le 4 k (fun z => absurd z (by omega)) (fun z' => ?_)
      rw [nI_clamp (show k < 2 ^ 31 by omega)]
      refine ⟨pk_in j 16 (by omega), pk_in k 4 (by omega), nm_e ⟨pk_in j 16 (by omega), pk_in k 4 (by omega), nm_e ⟨pk_in j 16 (by omega), pk_in k 4 (by omega), nm_e ⟨pk_in j 16 (by omega), nm_e (nm_r (nI_1 k) (nm_r (nI_1 j) ?_))⟩⟩⟩⟩
      refine ih (j + 1) (k + 1) a1 a2 a3 a4 a5 a6 a7 (upd a8 j (-1)) a9 a10 (upd a11 k (a8 j)) (upd a12 k (a9 j)) (upd a13 k (a10 j)) a14 a15 a16 (by omega) (by omega) (by omega) (po_takeM hS (by omega) (by omega) e) (fun i i1 i2 => ?_) (fun k' a8' a11' a12' a13' g1 g2 g3 => H k' a8' a11' a12' a13' g1 g2 (fun i hi => g3 i ?_))
      · by_cases q : i = j
        · rw [q, pk_us]
        · rw [pk_un q]
          exact hE i i1 (by omega)
      · by_cases q : i = j
        · rw [q, pk_us]
        · rw [pk_un q]
          exact hi
theorem po_rm2 {post : St2 → Prop} {s rn ky tn : Int32} {l : Nat} (hl : l < 4) {wl : Nat → Nat} {W : Nat → Int32} :
    ∀ (n lv k : Nat) (a1 a2 a3 a4 a5 a6 a7 a8 a9 a10 a11 a12 a13 a14 a15 a16 : Nat → Int32), lv ≤ 3 → 3 - lv < n → po_SM a8 a9 a10 a11 a12 a13 k wl W → (∀ lw i, lw < lv → i / 2 = po_bm l lw → a8 i = -1) →
    (∀ (k' : Nat) (a8' a11' a12' a13' : Nat → Int32), po_SM a8' a9 a10 a11' a12' a13' k' wl W → (∀ i, po_onm l i → a8' i = -1) → post (s, (nI k'), rn, ky, tn, a1, a2, a3, a4, a5, a6, a7, a8', a9, a10, a11', a12', a13', a14, a15, a16)) →
    wX_readMapPath_2 post (nI l) s rn ky tn n (nI lv) (nI k) a1 a2 a3 a4 a5 a6 a7 a8 a9 a10 a11 a12 a13 a14 a15 a16 := by
  intro n
  induction n with
  | zero => intro lv k a1 a2 a3 a4 a5 a6 a7 a8 a9 a10 a11 a12 a13 a14 a15 a16 h1 h2; omega
  | succ n ih =>
    intro lv k a1 a2 a3 a4 a5 a6 a7 a8 a9 a10 a11 a12 a13 a14 a15 a16 h1 h2 hS hE H
    refine pk_le 3 lv (fun z => H k a8 a11 a12 a13 hS (fun i ⟨lw, g1, g2⟩ => hE lw i (by omega) g2)) (fun z => po_mbk hl (by omega) (nm_r (po_2m _) ⟨3, ?_⟩))
    have hb := po_bm_lt l hl lv z
    refine po_rm18 hb.1 hb.2 3 (2 * po_bm l lv) k a1 a2 a3 a4 a5 a6 a7 a8 a9 a10 a11 a12 a13 a14 a15 a16 (by omega) (by omega) (by omega) hS (fun i i1 i2 => absurd i1 (by omega)) (fun k' a8' a11' a12' a13' g1 g2 g3 => ?_)
    rw [nI_1]
    refine ih (lv + 1) k' a1 a2 a3 a4 a5 a6 a7 a8' a9 a10 a11' a12' a13' a14 a15 a16 (by omega) (by omega) g1 (fun lw i q1 q2 => ?_) H
    by_cases q : lw = lv
    · exact g2 i (by rw [← q]; exact q2)
    · exact g3 i (hE lw i (by omega) q2)
theorem po_rm {post : St2 → Prop} {s rn ky tn : Int32} {a1 a2 a3 a4 a5 a6 a7 a8 a9 a10 a11 a12 a13 a14 a15 a16 : Nat → Int32} {l k : Nat} (hl : l < 4) {wl : Nat → Nat} {W : Nat → Int32} (hS : po_SM a8 a9 a10 a11 a12 a13 k wl W)
    (H : ∀ (k' : Nat) (a8' a11' a12' a13' : Nat → Int32), po_SM a8' a9 a10 a11' a12' a13' k' wl W → (∀ i, po_onm l i → a8' i = -1) → post (s, (nI k'), rn, ky, tn, a1, a2, a3, a4, a5, a6, a7, a8', a9, a10, a11', a12', a13', a14, a15, a16)) :
    wpX_readMapPath post (s, (nI k), rn, ky, tn, a1, a2, a3, a4, a5, a6, a7, a8, a9, a10, a11, a12, a13, a14, a15, a16) (nI l) :=
  ⟨4, po_rm2 hl 4 0 k a1 a2 a3 a4 a5 a6 a7 a8 a9 a10 a11 a12 a13 a14 a15 a16 (by omega) (by omega) hS (fun lw i h => absurd h (by omega)) H⟩
theorem po_mf2 {post : Int32 → Prop} {l lv k : Nat} {s rn ky tn : Int32} {a1 a2 a3 a4 a5 a6 a7 a8 a9 a10 a11 a12 a13 a14 a15 a16 : Nat → Int32} (hl : l < 4) (hv : lv < 3) (hk : k ≤ 4) (ht : ∀ i, i < k → ∃ t, t < 4 ∧ a13 i = nI t) (H0 : post (-1)) (H1 : ∀ i, i < k → (∀ t, t < 4 → a13 i = nI t → po_bm t lv = po_bm l lv) → post (nI i)) :
    ∀ (n i : Nat), i ≤ k → k - i < n → wX_mapFitting_2 post (nI l) (nI lv) s (nI k) rn ky tn a1 a2 a3 a4 a5 a6 a7 a8 a9 a10 a11 a12 a13 a14 a15 a16 n (nI i) := by
  intro n
  induction n with
  | zero => intro i h1 h2; omega
  | succ n ih =>
    intro i h1 h2
    refine pk_le k i (fun z => H0) (fun z => ⟨pk_in i 4 (by omega), ?_⟩)
    rw [nI_clamp (show i < 2 ^ 31 by omega)]
    obtain ⟨t, ht1, ht2⟩ := ht i z
    rw [ht2]
    refine po_mbk ht1 hv (po_mbk hl hv ?_)
    have b1 := po_bm_lt t ht1 lv hv
    have b2 := po_bm_lt l hl lv hv
    refine pk_eq (po_bm t lv) (po_bm l lv) (fun e => H1 i z (fun t' q1 q2 => ?_)) (fun _ => nm_r (nI_1 i) (ih (i + 1) (by omega) (by omega)))
    rw [po_inj (show t' < 16 by omega) (show t < 16 by omega) (q2.symm.trans ht2)]
    exact e
theorem po_mf {post : Int32 → Prop} {l lv k : Nat} {s rn ky tn : Int32} {a1 a2 a3 a4 a5 a6 a7 a8 a9 a10 a11 a12 a13 a14 a15 a16 : Nat → Int32} (hl : l < 4) (hv : lv < 3) {wl : Nat → Nat} {W : Nat → Int32} (hw : ∀ w, w < 4 → wl w < 4) (hS : po_SM a8 a9 a10 a11 a12 a13 k wl W) (H0 : post (-1)) (H1 : ∀ i, i < k → (∀ t, t < 4 → a13 i = nI t → po_bm t lv = po_bm l lv) → post (nI i)) :
    wpX_mapFitting post (s, (nI k), rn, ky, tn, a1, a2, a3, a4, a5, a6, a7, a8, a9, a10, a11, a12, a13, a14, a15, a16) (nI l) (nI lv) :=
  ⟨k + 1, po_mf2 hl hv (po_le hS) (fun i hi => Exists.elim (po_tag hS hi) (fun b hb => ⟨wl b, hw b hb.1, hb.2⟩)) H0 H1 (k + 1) 0 (by omega) (by omega)⟩
theorem po_wm17 {post : St2 → Prop} {J2 : Int32 → Int32 → (Nat → Int32) → (Nat → Int32) → (Nat → Int32) → (Nat → Int32) → (Nat → Int32) → (Nat → Int32) → (Nat → Int32) → (Nat → Int32) → (Nat → Int32) → (Nat → Int32) → (Nat → Int32) → (Nat → Int32) → (Nat → Int32) → (Nat → Int32) → (Nat → Int32) → (Nat → Int32) →  Prop} {s rn ky tn : Int32} {l lv B : Nat} (hl : l < 4) (hv : lv < 3) (hB : B = po_bm l lv) {wl : Nat → Nat} {W : Nat → Int32} (hw : ∀ w, w < 4 → wl w < 4) :
    ∀ (n j k : Nat) (a1 a2 a3 a4 a5 a6 a7 a8 a9 a10 a11 a12 a13 a14 a15 a16 : Nat → Int32), 2 * B ≤ j → j ≤ 2 * B + 2 → 2 * B + 2 - j < n → po_SM a8 a9 a10 a11 a12 a13 k wl W →
    (∀ (k' : Nat) (a8' a9' a10' a11' a12' a13' : Nat → Int32), po_SM a8' a9' a10' a11' a12' a13' k' wl W → J2 (nI lv + (-1)) (nI k') a1 a2 a3 a4 a5 a6 a7 a8' a9' a10' a11' a12' a13' a14 a15 a16) →
    wX_writeMapPath_17 post J2 (nI l) (nI lv) (nI B) s rn ky tn n (nI j) (nI k) a1 a2 a3 a4 a5 a6 a7 a8 a9 a10 a11 a12 a13 a14 a15 a16 := by
  have hb := po_bm_lt l hl lv hv
  rw [← hB] at hb
  intro n
  induction n with
  | zero => intro j k a1 a2 a3 a4 a5 a6 a7 a8 a9 a10 a11 a12 a13 a14 a15 a16 h1 h2 h3; omega
  | succ n ih =>
    intro j k a1 a2 a3 a4 a5 a6 a7 a8 a9 a10 a11 a12 a13 a14 a15 a16 h1 h2 h3 hS H
    have hk := po_le hS
    refine pk_le (2 * B + 2) j (fun z => nm_e (H k a8 a9 a10 a11 a12 a13 hS)) (fun z => ?_) (po_2B B)
    refine po_mf hl hv hw hS ⟨pk_in j 16 (by omega), ?_⟩ (fun i hi hf => ⟨pk_in j 16 (by omega), ?_⟩)
    · exact br_c (fun _ => br_t rfl (nm_r (nI_1 j) (ih (j + 1) k a1 a2 a3 a4 a5 a6 a7 a8 a9 a10 a11 a12 a13 a14 a15 a16 (by omega) (by omega) (by omega) hS H))) (fun _ => nm_r (nI_1 j) (ih (j + 1) k a1 a2 a3 a4 a5 a6 a7 a8 a9 a10 a11 a12 a13 a14 a15 a16 (by omega) (by omega) (by omega) hS H))
    · rw [nI_clamp (show j < 2 ^ 31 by omega)]
      refine br_c (fun e => br_f (po_m1 (by omega)) ?_) (fun _ => nm_r (nI_1 j) (ih (j + 1) k a1 a2 a3 a4 a5 a6 a7 a8 a9 a10 a11 a12 a13 a14 a15 a16 (by omega) (by omega) (by omega) hS H))
      rw [nI_clamp (show i < 2 ^ 31 by omega)]
      refine nm_r (pk_sub (show 1 ≤ k by omega)) ⟨pk_in i 4 (by omega), pk_in j 16 (by omega), nm_e ⟨pk_in i 4 (by omega), pk_in j 16 (by omega), nm_e ⟨pk_in i 4 (by omega), pk_in j 16 (by omega), nm_e ⟨pk_in (k - 1) 4 (by omega), pk_in i 4 (by omega), nm_e ⟨pk_in (k - 1) 4 (by omega), pk_in i 4 (by omega), nm_e ⟨pk_in (k - 1) 4 (by omega), pk_in i 4 (by omega), nm_e (nm_r (nI_1 j) ?_)⟩⟩⟩⟩⟩⟩
      rw [nI_clamp (show k - 1 < 2 ^ 31 by omega)]
      refine ih (j + 1) (k - 1) a1 a2 a3 a4 a5 a6 a7 (upd a8 j (a11 i)) (upd a9 j (a12 i)) (upd a10 j (a13 i)) (upd a11 i (a11 (k - 1))) (upd a12 i (a12 (k - 1))) (upd a13 i (a13 (k - 1))) a14 a15 a16 (by omega) (by omega) (by omega) (po_settleM hS (by omega) (by omega) e hi (fun b hb1 hb2 => ⟨lv, hv, ?_⟩)) H
      rw [hf (wl b) (hw b hb1) hb2]
      omega
def po_lv : Nat → Int32
  | 0 => -1
  | d + 1 => nI d
theorem po_lv1 (d : Nat) : nI d + (-1) = po_lv d := by
  cases d with
  | zero => rfl
  | succ d => exact pk_m1 d
theorem po_wm2 {post : St2 → Prop} {s rn ky tn : Int32} {l : Nat} (hl : l < 4) {wl : Nat → Nat} {W : Nat → Int32} (hw : ∀ w, w < 4 → wl w < 4) :
    ∀ (d k : Nat) (a1 a2 a3 a4 a5 a6 a7 a8 a9 a10 a11 a12 a13 a14 a15 a16 : Nat → Int32), d ≤ 3 → po_SM a8 a9 a10 a11 a12 a13 k wl W →
    (∀ (k' : Nat) (a8' a9' a10' a11' a12' a13' : Nat → Int32), po_SM a8' a9' a10' a11' a12' a13' k' wl W → post (s, (nI k'), rn, ky, tn, a1, a2, a3, a4, a5, a6, a7, a8', a9', a10', a11', a12', a13', a14, a15, a16)) →
    wX_writeMapPath_2 post (nI l) s rn ky tn (d + 1) (po_lv d) (nI k) a1 a2 a3 a4 a5 a6 a7 a8 a9 a10 a11 a12 a13 a14 a15 a16 := by
  intro d
  induction d with
  | zero =>
    intro k a1 a2 a3 a4 a5 a6 a7 a8 a9 a10 a11 a12 a13 a14 a15 a16 h1 hS H
    exact br_t (show (-1 : Int32) < 0 by decide) (H k a8 a9 a10 a11 a12 a13 hS)
  | succ d ih =>
    intro k a1 a2 a3 a4 a5 a6 a7 a8 a9 a10 a11 a12 a13 a14 a15 a16 h1 hS H
    show wX_writeMapPath_2 post (nI l) s rn ky tn (d + 1 + 1) (nI d) (nI k) a1 a2 a3 a4 a5 a6 a7 a8 a9 a10 a11 a12 a13 a14 a15 a16
    refine br_f (nI_pos (show d < 2 ^ 31 by omega)) (po_mbk hl (by omega) (nm_r (po_2m _) ⟨3, ?_⟩))
    refine po_wm17 hl (by omega) rfl hw 3 (2 * po_bm l d) k a1 a2 a3 a4 a5 a6 a7 a8 a9 a10 a11 a12 a13 a14 a15 a16 (by omega) (by omega) (by omega) hS (fun k' a8' a9' a10' a11' a12' a13' g1 => ?_)
    rw [po_lv1]
    exact ih k' a1 a2 a3 a4 a5 a6 a7 a8' a9' a10' a11' a12' a13' a14 a15 a16 (by omega) g1 H
theorem po_wm {post : St2 → Prop} {s rn ky tn : Int32} {a1 a2 a3 a4 a5 a6 a7 a8 a9 a10 a11 a12 a13 a14 a15 a16 : Nat → Int32} {l k : Nat} (hl : l < 4) {wl : Nat → Nat} {W : Nat → Int32} (hw : ∀ w, w < 4 → wl w < 4) (hS : po_SM a8 a9 a10 a11 a12 a13 k wl W)
    (H : ∀ (k' : Nat) (a8' a9' a10' a11' a12' a13' : Nat → Int32), po_SM a8' a9' a10' a11' a12' a13' k' wl W → post (s, (nI k'), rn, ky, tn, a1, a2, a3, a4, a5, a6, a7, a8', a9', a10', a11', a12', a13', a14, a15, a16)) :
    wpX_writeMapPath post (s, (nI k), rn, ky, tn, a1, a2, a3, a4, a5, a6, a7, a8, a9, a10, a11, a12, a13, a14, a15, a16) (nI l) :=
  ⟨4, po_wm2 hl hw 3 k a1 a2 a3 a4 a5 a6 a7 a8 a9 a10 a11 a12 a13 a14 a15 a16 (by omega) hS H⟩
end
section
/-! next and leafOf -/
theorem po_nx {post : Int32 → St2 → Prop} {s m rn ky tn : Int32} {a1 a2 a3 a4 a5 a6 a7 a8 a9 a10 a11 a12 a13 a14 a15 a16 : Nat → Int32} (H : ∀ r rn', post r (s, m, rn', ky, tn, a1, a2, a3, a4, a5, a6, a7, a8, a9, a10, a11, a12, a13, a14, a15, a16)) : wpX_next post (s, m, rn, ky, tn, a1, a2, a3, a4, a5, a6, a7, a8, a9, a10, a11, a12, a13, a14, a15, a16) := nm_e (nm_e (nm_e (H _ _)))
theorem po_nx2 {post : Int32 → St2 → Prop} {s m rn ky tn : Int32} {a1 a2 a3 a4 a5 a6 a7 a8 a9 a10 a11 a12 a13 a14 a15 a16 : Nat → Int32} (H : ∀ r rn', post r (s, m, rn', ky, tn, a1, a2, a3, a4, a5, a6, a7, a8, a9, a10, a11, a12, a13, a14, a15, a16)) : wpX_next_2 post (s, m, rn, ky, tn, a1, a2, a3, a4, a5, a6, a7, a8, a9, a10, a11, a12, a13, a14, a15, a16) := nm_e (nm_e (nm_e (H _ _)))
theorem po_nx3 {post : Int32 → St2 → Prop} {s m rn ky tn : Int32} {a1 a2 a3 a4 a5 a6 a7 a8 a9 a10 a11 a12 a13 a14 a15 a16 : Nat → Int32} (H : ∀ r rn', post r (s, m, rn', ky, tn, a1, a2, a3, a4, a5, a6, a7, a8, a9, a10, a11, a12, a13, a14, a15, a16)) : wpX_next_3 post (s, m, rn, ky, tn, a1, a2, a3, a4, a5, a6, a7, a8, a9, a10, a11, a12, a13, a14, a15, a16) := nm_e (nm_e (nm_e (H _ _)))
theorem po_upself (f : Nat → Int32) (i : Nat) : upd f i (f i) = f := by
  funext j
  by_cases e : j = i
  · rw [e, pk_us]
  · rw [pk_un e]
theorem po_ulb {wl : Nat → Nat} {w t : Nat} (hw : ∀ w, w < 4 → wl w < 4) (ht : t < 4) : ∀ v, v < 4 → po_ul wl w t v < 4 := by
  intro v hv
  by_cases e : v = w
  · rw [e, po_uls]
    exact ht
  · rw [po_uln e]
    exact hw v hv
theorem po_lf_hi {post : Int32 → St2 → Prop} {p1 x4 x6 s rn ky tn : Int32} {w l k : Nat} {a1 a2 a3 a4 a5 a6 a7 a8 a9 a10 a11 a12 a13 a14 a15 a16 : Nat → Int32} (hl : l < 4) {wl : Nat → Nat} {W : Nat → Int32} (hw : ∀ w, w < 4 → wl w < 4) (hS : po_SM a8 a9 a10 a11 a12 a13 k wl W)
    (H : ∀ (k' : Nat) (a8' a9' a10' a11' a12' a13' : Nat → Int32), po_SM a8' a9' a10' a11' a12' a13' k' wl W → post x6 (s, (nI k'), rn, ky, tn, a1, a2, a3, a4, a5, a6, a7, a8', a9', a10', a11', a12', a13', a14, a15, a16)) :
    ∀ (n i : Nat), i ≤ k → k - i < n → (∀ q, i ≤ q → q < k → a11 q ≠ nI w) → wX_leafOf_43 post p1 (nI w) x4 (nI l) s (nI k) rn ky tn n x6 (nI i) a1 a2 a3 a4 a5 a6 a7 a8 a9 a10 a11 a12 a13 a14 a15 a16 := by
  have hk := po_le hS
  intro n
  induction n with
  | zero => intro i h1 h2; omega
  | succ n ih =>
    intro i h1 h2 hq
    refine pk_le k i (fun z => po_wm hl hw hS H) (fun z => ⟨pk_in i 4 (by omega), ?_⟩)
    rw [nI_clamp (show i < 2 ^ 31 by omega)]
    exact br_f (hq i (by omega) z) (nm_r (nI_1 i) (ih (i + 1) (by omega) (by omega) (fun q h1 h2 => hq q (by omega) h2)))
theorem po_lfl {post : Int32 → St2 → Prop} {p1 s rn ky tn nw : Int32} {w l k i0 t r : Nat} {a1 a2 a3 a4 a5 a6 a7 a8 a9 a10 a11 a12 a13 a14 a15 a16 : Nat → Int32} {wl : Nat → Nat} {W : Nat → Int32} (hl : l < 4) (hw4 : w < 4) (ht : t < 4) (hw : ∀ w, w < 4 → wl w < 4) (hS : po_SM a8 a9 a10 a11 a12 a13 k wl W)
    (h0 : i0 < k) (ho : a11 i0 = nI w) (hv : a12 i0 = W w) (hu : ∀ q, q < k → q ≠ i0 → a11 q ≠ nI w) (ha : a14 w = nI t)
    (hn : (p1 = -1 ∧ nw = W w) ∨ (¬ p1 = -1 ∧ nw = ((W w &&& (((7 : Int32) <<< (nI (3 * r) &&& 31)) ^^^ (-1))) ||| (p1 <<< (nI (3 * r) &&& 31)))))
    (H : ∀ (k' : Nat) (a8' a9' a10' a11' a12' a13' : Nat → Int32), po_SM a8' a9' a10' a11' a12' a13' k' (po_ul wl w t) (upd W w nw) → post (po_fd r (W w)) (s, (nI k'), rn, ky, tn, a1, a2, a3, a4, a5, a6, a7, a8', a9', a10', a11', a12', a13', a14, a15, a16)) :
    ∀ (n i : Nat) (x6 : Int32), i ≤ i0 → k - i < n → wX_leafOf_43 post p1 (nI w) (nI (3 * r)) (nI l) s (nI k) rn ky tn n x6 (nI i) a1 a2 a3 a4 a5 a6 a7 a8 a9 a10 a11 a12 a13 a14 a15 a16 := by
  have hk := po_le hS
  have hc : po_SM a8 a9 a10 a11 (upd a12 i0 nw) (upd a13 i0 (nI t)) k (po_ul wl w t) (upd W w nw) := po_change (by omega) hS hw4 h0 ho
  intro n
  induction n with
  | zero => intro i x6 h1 h2; omega
  | succ n ih =>
    intro i x6 h1 h2
    refine pk_le k i (fun z => absurd z (by omega)) (fun z => ⟨pk_in i 4 (by omega), ?_⟩)
    rw [nI_clamp (show i < 2 ^ 31 by omega)]
    by_cases e : i = i0
    · rw [e]
      refine br_t ho ⟨pk_in i0 4 (by omega), nm_r hv (nm_e ?_)⟩
      rcases hn with ⟨e1, e2⟩ | ⟨e1, e2⟩
      · refine br_t e1 (And.intro (pk_in w 4 hw4) (And.intro (pk_in i0 4 (by omega)) (nm_r (e' := upd a13 i0 (nI t)) ?_ (nm_r (nI_1 i0) ?_))))
        · rw [nI_clamp (show i0 < 2 ^ 31 by omega), nI_clamp (show w < 2 ^ 31 by omega), ha]
        · rw [e2, ← hv, po_upself, hv, ← e2] at hc
          exact po_lf_hi hl (po_ulb hw ht) hc H n (i0 + 1) (by omega) (by omega) (fun q q1 q2 => hu q q2 (by omega))
      · refine br_f e1 ⟨pk_in i0 4 (by omega), nm_r (e' := upd a12 i0 nw) ?_ (And.intro (pk_in w 4 hw4) (And.intro (pk_in i0 4 (by omega)) (nm_r (e' := upd a13 i0 (nI t)) ?_ (nm_r (nI_1 i0) ?_))))⟩
        · rw [e2]
        · rw [nI_clamp (show i0 < 2 ^ 31 by omega), nI_clamp (show w < 2 ^ 31 by omega), ha]
        · exact po_lf_hi hl (po_ulb hw ht) hc H n (i0 + 1) (by omega) (by omega) (fun q q1 q2 => hu q q2 (by omega))
    · exact br_f (hu i (by omega) e) (nm_r (nI_1 i) (ih (i + 1) x6 (by omega) (by omega)))
/-- the smaller store holds the leaves lf -/
def po_P (m : Int32) (a8 a9 a10 a11 a12 a13 a14 : Nat → Int32) (lf : Nat → Nat) : Prop :=
  ∃ (k : Nat) (wl : Nat → Nat) (W : Nat → Int32), m = nI k ∧ po_SM a8 a9 a10 a11 a12 a13 k wl W ∧ (∀ w, w < 4 → wl w < 4 ∧ a14 w = nI (wl w)) ∧ (∀ w r, w < 4 → r < 4 → po_fd r (W w) = nI (lf (4 * w + r)))
theorem po_leafOf {post : Int32 → St2 → Prop} {p1 : Int32} {b : Nat} {s m rn ky tn : Int32} {a1 a2 a3 a4 a5 a6 a7 a8 a9 a10 a11 a12 a13 a14 a15 a16 : Nat → Int32} {lf lf' : Nat → Nat} (hb : b < 16) (hP : po_P m a8 a9 a10 a11 a12 a13 a14 lf) (hp : (p1 = -1 ∧ lf' = lf) ∨ (∃ t, t < 8 ∧ p1 = nI t ∧ lf' = po_ul lf b t))
    (H : ∀ (m' rn' : Int32) (a8' a9' a10' a11' a12' a13' a14' : Nat → Int32), po_P m' a8' a9' a10' a11' a12' a13' a14' lf' → post (nI (lf b)) (s, m', rn', ky, tn, a1, a2, a3, a4, a5, a6, a7, a8', a9', a10', a11', a12', a13', a14', a15, a16)) :
    wpX_leafOf post (s, m, rn, ky, tn, a1, a2, a3, a4, a5, a6, a7, a8, a9, a10, a11, a12, a13, a14, a15, a16) (nI b) p1 := by
  obtain ⟨k, wl, W, hm, hS, hwl, hfd⟩ := hP
  rw [hm]
  have hw : ∀ w, w < 4 → wl w < 4 := fun w h => (hwl w h).1
  have hq : b / 4 < 4 := by omega
  have hr : b % 4 < 4 := by omega
  have hbq : 4 * (b / 4) + b % 4 = b := by omega
  refine nm_r (po_b3 b hb).1 (nm_r (po_b3 b hb).2 ⟨pk_in (b / 4) 4 hq, nm_r (e' := nI (wl (b / 4))) ?_ (po_nx3 (fun r rn' => ⟨pk_in (b / 4) 4 hq, ?_⟩))⟩)
  · rw [nI_clamp (show b / 4 < 2 ^ 31 by omega)]
    exact (hwl _ hq).2
  · obtain ⟨t, ht, et⟩ := po_and3 r
    rw [et, nI_clamp (show b / 4 < 2 ^ 31 by omega)]
    refine nm_e (po_rm (hw _ hq) hS (fun k' a8' a11' a12' a13' g1 g2 => ?_))
    obtain ⟨i0, h0, ho, hv, hu⟩ := po_find (by omega) g1 hq g2
    have hF : ∀ (nw : Int32), (∀ w r, w < 4 → r < 4 → po_fd r (upd W (b / 4) nw w) = nI (lf' (4 * w + r))) → (∀ (k' : Nat) (a8' a9' a10' a11' a12' a13' : Nat → Int32), po_SM a8' a9' a10' a11' a12' a13' k' (po_ul wl (b / 4) t) (upd W (b / 4) nw) → post (po_fd (b % 4) (W (b / 4))) (s, (nI k'), rn', ky, tn, a1, a2, a3, a4, a5, a6, a7, a8', a9', a10', a11', a12', a13', (upd a14 (b / 4) (nI t)), a15, a16)) := by
      intro nw hnw k' a8' a9' a10' a11' a12' a13' g
      rw [hfd _ _ hq hr, hbq]
      refine H _ _ _ _ _ _ _ _ _ ⟨k', po_ul wl (b / 4) t, upd W (b / 4) nw, rfl, g, fun w h => ⟨po_ulb hw ht w h, ?_⟩, hnw⟩
      by_cases e : w = b / 4
      · rw [e, pk_us, po_uls]
      · rw [pk_un e, po_uln e]
        exact (hwl w h).2
    rcases hp with ⟨e1, e2⟩ | ⟨t', ht', e1, e2⟩
    · refine ⟨k' + 1, po_lfl (hw _ hq) hq ht hw g1 h0 ho hv hu pk_us (Or.inl ⟨e1, rfl⟩) (hF (W (b / 4)) ?_) (k' + 1) 0 0 (by omega) (by omega)⟩
      rw [po_upself, e2]
      exact hfd
    · refine ⟨k' + 1, po_lfl (hw _ hq) hq ht hw g1 h0 ho hv hu pk_us (Or.inr ⟨by rw [e1]; exact po_m1 (by omega), rfl⟩) (hF _ ?_) (k' + 1) 0 0 (by omega) (by omega)⟩
      intro w r' hw' hr'
      rw [e1, e2]
      by_cases e : w = b / 4
      · rw [e, pk_us, po_fd_set hr' hr ht']
        by_cases e' : r' = b % 4
        · rw [if_pos e', e', hbq, po_uls]
        · rw [if_neg e', po_uln (by omega)]
          exact hfd _ _ hq hr'
      · rw [pk_un e, po_uln (by omega)]
        exact hfd _ _ hw' hr'
end
section
/-! the tree: its walks -/
theorem po_kbk {post : Int32 → Prop} {l lv : Nat} (hl : l < 8) (hv : lv < 4) (H : post (nI (po_bk l lv))) : wpX_bucketAt post () (nI l) (nI lv) := by
  unfold wpX_bucketAt
  rw [po_kb l hl lv hv]
  exact H
theorem po_wpad {post : Int32 → Prop} {s m rn ky tn : Int32} {a1 a2 a3 a4 a5 a6 a7 a8 a9 a10 a11 a12 a13 a14 a15 a16 : Nat → Int32} {j : Nat} (hj : j < 64) (H : post (po_pd ky a4 j)) : wpX_pad post (s, m, rn, ky, tn, a1, a2, a3, a4, a5, a6, a7, a8, a9, a10, a11, a12, a13, a14, a15, a16) (nI j) := by
  unfold wpX_pad
  rw [po_j2 hj]
  refine ⟨pk_in (j / 4) 16 (by omega), ?_⟩
  rw [nI_clamp (show j / 4 < 2 ^ 31 by omega)]
  exact nm_e (nm_e (nm_e H))
def po_SK (ky : Int32) (vr ow cl tg so sc st : Nat → Int32) (k : Nat) (lf : Nat → Nat) (V : Nat → Int32) : Prop := po_S 16 4 64 po_on (po_pd ky vr) ow cl tg so sc st k lf V
theorem po_rp28 {post : St2 → Prop} {J2 : Int32 → Int32 → Int32 → (Nat → Int32) → (Nat → Int32) → (Nat → Int32) → (Nat → Int32) → (Nat → Int32) → (Nat → Int32) → (Nat → Int32) → (Nat → Int32) → (Nat → Int32) → (Nat → Int32) → (Nat → Int32) → (Nat → Int32) → (Nat → Int32) → (Nat → Int32) → (Nat → Int32) → (Nat → Int32) →  Prop} {x1 x2 m rn ky tn : Int32} {B : Nat} (hB0 : 1 ≤ B) (hB : B < 16) {lf : Nat → Nat} {V : Nat → Int32} :
    ∀ (n j k : Nat) (a1 a2 a3 a4 a5 a6 a7 a8 a9 a10 a11 a12 a13 a14 a15 a16 : Nat → Int32), 4 * B ≤ j → j ≤ 4 * B + 4 → 4 * B + 4 - j < n → po_SK ky a4 a1 a2 a3 a5 a6 a7 k lf V →
    (∀ i, i / 4 = B → i < j → a1 i = -1) →
    (∀ (k' : Nat) (a1' a5' a6' a7' : Nat → Int32), po_SK ky a4 a1' a2 a3 a5' a6' a7' k' lf V → (∀ i, i / 4 = B → a1' i = -1) → (∀ i, a1 i = -1 → a1' i = -1) → J2 (x2 + 1) (nI k') tn a1' a2 a3 a4 a5' a6' a7' a8 a9 a10 a11 a12 a13 a14 a15 a16) →
    wX_readPath_28 post J2 x1 x2 (nI B) m rn ky tn n (nI j) (nI k) a1 a2 a3 a4 a5 a6 a7 a8 a9 a10 a11 a12 a13 a14 a15 a16 := by
  intro n
  induction n with
  | zero => intro j k a1 a2 a3 a4 a5 a6 a7 a8 a9 a10 a11 a12 a13 a14 a15 a16 h1 h2 h3; omega
  | succ n ih =>
    intro j k a1 a2 a3 a4 a5 a6 a7 a8 a9 a10 a11 a12 a13 a14 a15 a16 h1 h2 h3 hS hE H
    have hk := po_le hS
    refine pk_le (4 * B + 4) j (fun z => nm_e (H k a1 a5 a6 a7 hS (fun i h => hE i h (by omega)) (fun i h => h))) (fun z => ⟨pk_in j 64 (by omega), ?_⟩) (po_4B B)
    rw [nI_clamp (show j < 2 ^ 31 by omega)]
    refine br_c (fun e => nm_r (nI_1 j) ?_) (fun e => ?_)
    · refine ih (j + 1) k a1 a2 a3 a4 a5 a6 a7 a8 a9 a10 a11 a12 a13 a14 a15 a16 (by omega) (by omega) (by omega) hS (fun i i1 i2 => ?_) H
      by_cases q : i = j
      · rw [q]
        exact e
      · exact hE i i1 (by omega)
    · have hr := po_room hS (show 4 ≤ j by omega) (show j < 64 by omega) e
      refine pk_le 16 k (fun z => absurd z (by omega)) (fun z' => ?_)
      rw [nI_clamp (show k < 2 ^ 31 by omega)]
      refine ⟨pk_in j 64 (by omega), pk_in k 16 (by omega), nm_e ⟨pk_in j 64 (by omega), po_wpad (by omega) ⟨pk_in k 16 (by omega), nm_e ⟨pk_in j 64 (by omega), pk_in k 16 (by omega), nm_e ⟨pk_in j 64 (by omega), nm_e (nm_r (nI_1 k) (nm_r (nI_1 j) ?_))⟩⟩⟩⟩⟩
      refine ih (j + 1) (k + 1) (upd a1 j (-1)) a2 a3 a4 (upd a5 k (a1 j)) (upd a6 k (a2 j ^^^ po_pd ky a4 j)) (upd a7 k (a3 j)) a8 a9 a10 a11 a12 a13 a14 a15 a16 (by omega) (by omega) (by omega) (po_take hS (by omega) (by omega) e) (fun i i1 i2 => ?_) (fun k' a1' a5' a6' a7' g1 g2 g3 => H k' a1' a5' a6' a7' g1 g2 (fun i hi => g3 i ?_))
      · by_cases q : i = j
        · rw [q, pk_us]
        · rw [pk_un q]
          exact hE i i1 (by omega)
      · by_cases q : i = j
        · rw [q, pk_us]
        · rw [pk_un q]
          exact hi
theorem po_rp2 {post : St2 → Prop} {m rn ky : Int32} {l : Nat} (hl : l < 8) {lf : Nat → Nat} {V : Nat → Int32} {tz : Int32} :
    ∀ (n lv k : Nat) (a1 a2 a3 a4 a5 a6 a7 a8 a9 a10 a11 a12 a13 a14 a15 a16 : Nat → Int32), lv ≤ 4 → 4 - lv < n → po_SK ky a4 a1 a2 a3 a5 a6 a7 k lf V → (∀ lw i, lw < lv → i / 4 = po_bk l lw → a1 i = -1) →
    (∀ (k' : Nat) (a1' a5' a6' a7' : Nat → Int32), po_SK ky a4 a1' a2 a3 a5' a6' a7' k' lf V → (∀ i, po_on l i → a1' i = -1) → post ((nI k'), m, rn, ky, (tz + 4), a1', a2, a3, a4, a5', a6', a7', a8, a9, a10, a11, a12, a13, a14, a15, a16)) →
    wX_readPath_2 post (nI l) m rn ky n (nI lv) (nI k) (tz + nI lv) a1 a2 a3 a4 a5 a6 a7 a8 a9 a10 a11 a12 a13 a14 a15 a16 := by
  intro n
  induction n with
  | zero => intro lv k a1 a2 a3 a4 a5 a6 a7 a8 a9 a10 a11 a12 a13 a14 a15 a16 h1 h2; omega
  | succ n ih =>
    intro lv k a1 a2 a3 a4 a5 a6 a7 a8 a9 a10 a11 a12 a13 a14 a15 a16 h1 h2 hS hE H
    refine pk_le 4 lv (fun z => ?_) (fun z => po_kbk hl (by omega) (nm_e (nm_r (po_4m _) ⟨5, ?_⟩)))
    · have e4 : lv = 4 := by omega
      rw [e4]
      exact H k a1 a5 a6 a7 hS (fun i ⟨lw, g1, g2⟩ => hE lw i (by omega) g2)
    · have hb := po_bk_lt l hl lv z
      refine po_rp28 hb.1 hb.2 5 (4 * po_bk l lv) k a1 a2 a3 a4 a5 a6 a7 a8 a9 a10 a11 a12 a13 a14 a15 a16 (by omega) (by omega) (by omega) hS (fun i i1 i2 => absurd i1 (by omega)) (fun k' a1' a5' a6' a7' g1 g2 g3 => ?_)
      rw [nI_1, Int32.add_assoc, nI_1]
      refine ih (lv + 1) k' a1' a2 a3 a4 a5' a6' a7' a8 a9 a10 a11 a12 a13 a14 a15 a16 (by omega) (by omega) g1 (fun lw i q1 q2 => ?_) H
      by_cases q : lw = lv
      · exact g2 i (by rw [← q]; exact q2)
      · exact g3 i (hE lw i (by omega) q2)
theorem po_rp {post : St2 → Prop} {m rn ky tn : Int32} {a1 a2 a3 a4 a5 a6 a7 a8 a9 a10 a11 a12 a13 a14 a15 a16 : Nat → Int32} {l k : Nat} (hl : l < 8) {lf : Nat → Nat} {V : Nat → Int32} (hS : po_SK ky a4 a1 a2 a3 a5 a6 a7 k lf V)
    (H : ∀ (k' : Nat) (a1' a5' a6' a7' : Nat → Int32), po_SK ky a4 a1' a2 a3 a5' a6' a7' k' lf V → (∀ i, po_on l i → a1' i = -1) → post ((nI k'), m, rn, ky, (tn + 4), a1', a2, a3, a4, a5', a6', a7', a8, a9, a10, a11, a12, a13, a14, a15, a16)) :
    wpX_readPath post ((nI k), m, rn, ky, tn, a1, a2, a3, a4, a5, a6, a7, a8, a9, a10, a11, a12, a13, a14, a15, a16) (nI l) := by
  refine ⟨5, ?_⟩
  have h := po_rp2 (post := post) (m := m) (rn := rn) (tz := tn) hl 5 0 k a1 a2 a3 a4 a5 a6 a7 a8 a9 a10 a11 a12 a13 a14 a15 a16 (by omega) (by omega) hS (fun lw i h => absurd h (by omega)) H
  rw [nI_0, Int32.add_zero] at h
  exact h
theorem po_fi2 {post : Int32 → Prop} {l lv k : Nat} {m rn ky tn : Int32} {a1 a2 a3 a4 a5 a6 a7 a8 a9 a10 a11 a12 a13 a14 a15 a16 : Nat → Int32} (hl : l < 8) (hv : lv < 4) (hk : k ≤ 16) (ht : ∀ i, i < k → ∃ t, t < 8 ∧ a7 i = nI t) (H0 : post (-1)) (H1 : ∀ i, i < k → (∀ t, t < 8 → a7 i = nI t → po_bk t lv = po_bk l lv) → post (nI i)) :
    ∀ (n i : Nat), i ≤ k → k - i < n → wX_fitting_2 post (nI l) (nI lv) (nI k) m rn ky tn a1 a2 a3 a4 a5 a6 a7 a8 a9 a10 a11 a12 a13 a14 a15 a16 n (nI i) := by
  intro n
  induction n with
  | zero => intro i h1 h2; omega
  | succ n ih =>
    intro i h1 h2
    refine pk_le k i (fun z => H0) (fun z => ⟨pk_in i 16 (by omega), ?_⟩)
    rw [nI_clamp (show i < 2 ^ 31 by omega)]
    obtain ⟨t, ht1, ht2⟩ := ht i z
    rw [ht2]
    refine po_kbk ht1 hv (po_kbk hl hv ?_)
    have b1 := po_bk_lt t ht1 lv hv
    have b2 := po_bk_lt l hl lv hv
    refine pk_eq (po_bk t lv) (po_bk l lv) (fun e => H1 i z (fun t' q1 q2 => ?_)) (fun _ => nm_r (nI_1 i) (ih (i + 1) (by omega) (by omega)))
    rw [po_inj (show t' < 16 by omega) (show t < 16 by omega) (q2.symm.trans ht2)]
    exact e
theorem po_fi {post : Int32 → Prop} {l lv k : Nat} {m rn ky tn : Int32} {a1 a2 a3 a4 a5 a6 a7 a8 a9 a10 a11 a12 a13 a14 a15 a16 : Nat → Int32} (hl : l < 8) (hv : lv < 4) {lf : Nat → Nat} {V : Nat → Int32} (hw : ∀ w, w < 16 → lf w < 8) (hS : po_SK ky a4 a1 a2 a3 a5 a6 a7 k lf V) (H0 : post (-1)) (H1 : ∀ i, i < k → (∀ t, t < 8 → a7 i = nI t → po_bk t lv = po_bk l lv) → post (nI i)) :
    wpX_fitting post ((nI k), m, rn, ky, tn, a1, a2, a3, a4, a5, a6, a7, a8, a9, a10, a11, a12, a13, a14, a15, a16) (nI l) (nI lv) :=
  ⟨k + 1, po_fi2 hl hv (po_le hS) (fun i hi => Exists.elim (po_tag hS hi) (fun b hb => ⟨lf b, hw b hb.1, hb.2⟩)) H0 H1 (k + 1) 0 (by omega) (by omega)⟩
theorem po_wst {post : St2 → Prop} {m rn ky tn : Int32} {a1 a2 a3 a4 a5 a6 a7 a8 a9 a10 a11 a12 a13 a14 a15 a16 : Nat → Int32} {i j k : Nat} (hj : j < 64) (hi : i < k) (hk : k ≤ 16)
    (H : post ((nI (k - 1)), m, rn, ky, tn, (upd a1 j (a5 i)), (upd a2 j (a6 i ^^^ po_pd ky a4 j)), (upd a3 j (a7 i)), a4, (upd a5 i (a5 (k - 1))), (upd a6 i (a6 (k - 1))), (upd a7 i (a7 (k - 1))), a8, a9, a10, a11, a12, a13, a14, a15, a16)) :
    wpX_settle post ((nI k), m, rn, ky, tn, a1, a2, a3, a4, a5, a6, a7, a8, a9, a10, a11, a12, a13, a14, a15, a16) (nI i) (nI j) := by
  unfold wpX_settle
  rw [nI_clamp (show i < 2 ^ 31 by omega), nI_clamp (show j < 2 ^ 31 by omega)]
  refine ⟨pk_in i 16 (by omega), pk_in j 64 hj, nm_e ⟨pk_in i 16 (by omega), po_wpad hj ⟨pk_in j 64 hj, nm_e ⟨pk_in i 16 (by omega), pk_in j 64 hj, nm_e (nm_r (pk_sub (show 1 ≤ k by omega)) ⟨pk_in (k - 1) 16 (by omega), pk_in i 16 (by omega), nm_e ⟨pk_in (k - 1) 16 (by omega), pk_in i 16 (by omega), nm_e ⟨pk_in (k - 1) 16 (by omega), pk_in i 16 (by omega), nm_e ?_⟩⟩⟩)⟩⟩⟩⟩
  rw [nI_clamp (show k - 1 < 2 ^ 31 by omega)]
  exact H
theorem po_wp27 {post : St2 → Prop} {J2 : Int32 → Int32 → Int32 → Int32 → Int32 → Int32 → (Nat → Int32) → (Nat → Int32) → (Nat → Int32) → (Nat → Int32) → (Nat → Int32) → (Nat → Int32) → (Nat → Int32) → (Nat → Int32) → (Nat → Int32) → (Nat → Int32) → (Nat → Int32) → (Nat → Int32) → (Nat → Int32) → (Nat → Int32) → (Nat → Int32) → (Nat → Int32) →  Prop} {m ky tn : Int32} {l lv B : Nat} (hl : l < 8) (hv : lv < 4) (hB : B = po_bk l lv) {lf : Nat → Nat} {V : Nat → Int32} (hw : ∀ w, w < 16 → lf w < 8) :
    ∀ (n j k : Nat) (rn : Int32) (a1 a2 a3 a4 a5 a6 a7 a8 a9 a10 a11 a12 a13 a14 a15 a16 : Nat → Int32), 4 * B ≤ j → j ≤ 4 * B + 4 → 4 * B + 4 - j < n → po_SK ky a4 a1 a2 a3 a5 a6 a7 k lf V →
    (∀ i, i / 4 = B → j ≤ i → a1 i = -1) → (∀ lw i, lw < lv → i / 4 = po_bk l lw → a1 i = -1) →
    (∀ (k' : Nat) (rn' : Int32) (a1' a2' a3' a5' a6' a7' : Nat → Int32), po_SK ky a4 a1' a2' a3' a5' a6' a7' k' lf V → (∀ lw i, lw < lv → i / 4 = po_bk l lw → a1' i = -1) → J2 (nI lv + (-1)) (nI k') m rn' ky tn a1' a2' a3' a4 a5' a6' a7' a8 a9 a10 a11 a12 a13 a14 a15 a16) →
    wX_writePath_27 post J2 (nI l) (nI lv) (nI B) n (nI j) (nI k) m rn ky tn a1 a2 a3 a4 a5 a6 a7 a8 a9 a10 a11 a12 a13 a14 a15 a16 := by
  have hb := po_bk_lt l hl lv hv
  rw [← hB] at hb
  intro n
  induction n with
  | zero => intro j k rn a1 a2 a3 a4 a5 a6 a7 a8 a9 a10 a11 a12 a13 a14 a15 a16 h1 h2 h3; omega
  | succ n ih =>
    intro j k rn a1 a2 a3 a4 a5 a6 a7 a8 a9 a10 a11 a12 a13 a14 a15 a16 h1 h2 h3 hS hE hL H
    have hk := po_le hS
    refine pk_le (4 * B + 4) j (fun z => nm_e (H k rn a1 a2 a3 a5 a6 a7 hS hL)) (fun z => ?_) (po_4B B)
    have he : a1 j = -1 := hE j (by omega) (by omega)
    refine po_fi hl hv hw hS (br_t rfl (po_nx2 (fun r rn' => ⟨pk_in j 64 (by omega), ?_⟩))) (fun i hi hf => br_f (po_m1 (by omega)) (po_wst (by omega) hi hk (nm_r (nI_1 j) ?_)))
    · rw [nI_clamp (show j < 2 ^ 31 by omega)]
      refine nm_e (nm_r (nI_1 j) (ih (j + 1) k rn' a1 (upd a2 j r) a3 a4 a5 a6 a7 a8 a9 a10 a11 a12 a13 a14 a15 a16 (by omega) (by omega) (by omega) (po_frame (by omega) hS (fun i i1 i2 i3 => ⟨rfl, pk_un (fun q => i3 (by rw [q]; exact he))⟩)) (fun i i1 i2 => hE i i1 (by omega)) hL H))
    · refine ih (j + 1) (k - 1) rn (upd a1 j (a5 i)) (upd a2 j (a6 i ^^^ po_pd ky a4 j)) (upd a3 j (a7 i)) a4 (upd a5 i (a5 (k - 1))) (upd a6 i (a6 (k - 1))) (upd a7 i (a7 (k - 1))) a8 a9 a10 a11 a12 a13 a14 a15 a16 (by omega) (by omega) (by omega) (po_settle (by omega) hS (by omega) (by omega) he hi (fun b hb1 hb2 => ⟨lv, hv, ?_⟩)) (fun q q1 q2 => ?_) (fun lw q q1 q2 => ?_) H
      · rw [hf (lf b) (hw b hb1) hb2]
        omega
      · rw [pk_un (by omega)]
        exact hE q q1 (by omega)
      · have hm := po_bk_mono l hl lw (by omega) lv hv q1
        rw [pk_un (by omega)]
        exact hL lw q q1 q2
theorem po_wp2 {post : St2 → Prop} {m ky tn : Int32} {l : Nat} (hl : l < 8) {lf : Nat → Nat} {V : Nat → Int32} (hw : ∀ w, w < 16 → lf w < 8) :
    ∀ (d k : Nat) (rn : Int32) (a1 a2 a3 a4 a5 a6 a7 a8 a9 a10 a11 a12 a13 a14 a15 a16 : Nat → Int32), d ≤ 4 → po_SK ky a4 a1 a2 a3 a5 a6 a7 k lf V → (∀ lw i, lw < d → i / 4 = po_bk l lw → a1 i = -1) →
    (∀ (k' : Nat) (rn' : Int32) (a1' a2' a3' a4' a5' a6' a7' : Nat → Int32), po_SK ky a4' a1' a2' a3' a5' a6' a7' k' lf V → post ((nI k'), m, rn', ky, tn, a1', a2', a3', a4', a5', a6', a7', a8, a9, a10, a11, a12, a13, a14, a15, a16)) →
    wX_writePath_2 post (nI l) (d + 1) (po_lv d) (nI k) m rn ky tn a1 a2 a3 a4 a5 a6 a7 a8 a9 a10 a11 a12 a13 a14 a15 a16 := by
  intro d
  induction d with
  | zero =>
    intro k rn a1 a2 a3 a4 a5 a6 a7 a8 a9 a10 a11 a12 a13 a14 a15 a16 h1 hS hE H
    exact br_t (show (-1 : Int32) < 0 by decide) (H k rn a1 a2 a3 a4 a5 a6 a7 hS)
  | succ d ih =>
    intro k rn a1 a2 a3 a4 a5 a6 a7 a8 a9 a10 a11 a12 a13 a14 a15 a16 h1 hS hE H
    have hb := po_bk_lt l hl d (by omega)
    show wX_writePath_2 post (nI l) (d + 1 + 1) (nI d) (nI k) m rn ky tn a1 a2 a3 a4 a5 a6 a7 a8 a9 a10 a11 a12 a13 a14 a15 a16
    refine br_f (nI_pos (show d < 2 ^ 31 by omega)) (po_kbk hl (by omega) ⟨pk_in (po_bk l d) 16 hb.2, pk_in (po_bk l d) 16 hb.2, ?_⟩)
    rw [nI_clamp (show po_bk l d < 2 ^ 31 by omega)]
    refine nm_e (nm_r (po_4m _) ⟨5, ?_⟩)
    refine po_wp27 hl (by omega) rfl hw 5 (4 * po_bk l d) k rn a1 a2 a3 (upd a4 (po_bk l d) (a4 (po_bk l d) + 1)) a5 a6 a7 a8 a9 a10 a11 a12 a13 a14 a15 a16 (by omega) (by omega) (by omega) (po_frame (by omega) hS (fun i i1 i2 i3 => ⟨po_pd_up (fun q => i3 (hE d i (by omega) q)), rfl⟩)) (fun i i1 i2 => hE d i (by omega) i1) (fun lw i q1 q2 => hE lw i (by omega) q2) (fun k' rn' a1' a2' a3' a5' a6' a7' g1 g2 => ?_)
    rw [po_lv1]
    exact ih k' rn' a1' a2' a3' (upd a4 (po_bk l d) (a4 (po_bk l d) + 1)) a5' a6' a7' a8 a9 a10 a11 a12 a13 a14 a15 a16 (by omega) g1 g2 H
theorem po_wp {post : St2 → Prop} {m rn ky tn : Int32} {a1 a2 a3 a4 a5 a6 a7 a8 a9 a10 a11 a12 a13 a14 a15 a16 : Nat → Int32} {l k : Nat} (hl : l < 8) {lf : Nat → Nat} {V : Nat → Int32} (hw : ∀ w, w < 16 → lf w < 8) (hS : po_SK ky a4 a1 a2 a3 a5 a6 a7 k lf V) (hE : ∀ i, po_on l i → a1 i = -1)
    (H : ∀ (k' : Nat) (rn' : Int32) (a1' a2' a3' a4' a5' a6' a7' : Nat → Int32), po_SK ky a4' a1' a2' a3' a5' a6' a7' k' lf V → post ((nI k'), m, rn', ky, tn, a1', a2', a3', a4', a5', a6', a7', a8, a9, a10, a11, a12, a13, a14, a15, a16)) :
    wpX_writePath post ((nI k), m, rn, ky, tn, a1, a2, a3, a4, a5, a6, a7, a8, a9, a10, a11, a12, a13, a14, a15, a16) (nI l) :=
  ⟨5, po_wp2 hl hw 4 k rn a1 a2 a3 a4 a5 a6 a7 a8 a9 a10 a11 a12 a13 a14 a15 a16 (by omega) hS (fun lw i h1 h2 => hE i ⟨lw, h1, h2⟩) H⟩
end
section
/-! access -/
theorem po_ac_hi {post : Int32 → St2 → Prop} {x2 x3 x4 x6 m rn ky tn : Int32} {b l k : Nat} {a1 a2 a3 a4 a5 a6 a7 a8 a9 a10 a11 a12 a13 a14 a15 a16 : Nat → Int32} (hl : l < 8) {lf : Nat → Nat} {V : Nat → Int32} (hw : ∀ w, w < 16 → lf w < 8) (hS : po_SK ky a4 a1 a2 a3 a5 a6 a7 k lf V) (hE : ∀ i, po_on l i → a1 i = -1)
    (H : ∀ (k' : Nat) (rn' : Int32) (a1' a2' a3' a4' a5' a6' a7' : Nat → Int32), po_SK ky a4' a1' a2' a3' a5' a6' a7' k' lf V → post x6 ((nI k'), m, rn', ky, tn, a1', a2', a3', a4', a5', a6', a7', a8, a9, a10, a11, a12, a13, a14, a15, a16)) :
    ∀ (n i : Nat), i ≤ k → k - i < n → (∀ q, i ≤ q → q < k → a5 q ≠ nI b) → wX_access_35 post (nI b) x2 x3 x4 (nI l) (nI k) m rn ky tn n x6 (nI i) a1 a2 a3 a4 a5 a6 a7 a8 a9 a10 a11 a12 a13 a14 a15 a16 := by
  have hk := po_le hS
  intro n
  induction n with
  | zero => intro i h1 h2; omega
  | succ n ih =>
    intro i h1 h2 hq
    refine pk_le k i (fun z => po_wp hl hw hS hE H) (fun z => ⟨pk_in i 16 (by omega), ?_⟩)
    rw [nI_clamp (show i < 2 ^ 31 by omega)]
    exact br_f (hq i (by omega) z) (nm_r (nI_1 i) (ih (i + 1) (by omega) (by omega) (fun q h1 h2 => hq q (by omega) h2)))
theorem po_ulk {lf : Nat → Nat} {w t : Nat} (hw : ∀ w, w < 16 → lf w < 8) (ht : t < 8) : ∀ v, v < 16 → po_ul lf w t v < 8 := by
  intro v hv
  by_cases e : v = w
  · rw [e, po_uls]
    exact ht
  · rw [po_uln e]
    exact hw v hv
theorem po_acl {post : Int32 → St2 → Prop} {x2 x3 m rn ky tn nv : Int32} {b l k i0 t : Nat} {a1 a2 a3 a4 a5 a6 a7 a8 a9 a10 a11 a12 a13 a14 a15 a16 : Nat → Int32} {lf : Nat → Nat} {V : Nat → Int32} (hl : l < 8) (hb : b < 16) (ht : t < 8) (hw : ∀ w, w < 16 → lf w < 8) (hS : po_SK ky a4 a1 a2 a3 a5 a6 a7 k lf V) (hE : ∀ i, po_on l i → a1 i = -1)
    (h0 : i0 < k) (ho : a5 i0 = nI b) (hv : a6 i0 = V b) (hu : ∀ q, q < k → q ≠ i0 → a5 q ≠ nI b)
    (hn : (x2 = 0 ∧ nv = V b) ∨ (¬ x2 = 0 ∧ nv = x3))
    (H : ∀ (k' : Nat) (rn' : Int32) (a1' a2' a3' a4' a5' a6' a7' : Nat → Int32), po_SK ky a4' a1' a2' a3' a5' a6' a7' k' (po_ul lf b t) (upd V b nv) → post (V b) ((nI k'), m, rn', ky, tn, a1', a2', a3', a4', a5', a6', a7', a8, a9, a10, a11, a12, a13, a14, a15, a16)) :
    ∀ (n i : Nat) (x6 : Int32), i ≤ i0 → k - i < n → wX_access_35 post (nI b) x2 x3 (nI t) (nI l) (nI k) m rn ky tn n x6 (nI i) a1 a2 a3 a4 a5 a6 a7 a8 a9 a10 a11 a12 a13 a14 a15 a16 := by
  have hk := po_le hS
  have hc : po_SK ky a4 a1 a2 a3 a5 (upd a6 i0 nv) (upd a7 i0 (nI t)) k (po_ul lf b t) (upd V b nv) := po_change (by omega) hS hb h0 ho
  intro n
  induction n with
  | zero => intro i x6 h1 h2; omega
  | succ n ih =>
    intro i x6 h1 h2
    refine pk_le k i (fun z => absurd z (by omega)) (fun z => ⟨pk_in i 16 (by omega), ?_⟩)
    rw [nI_clamp (show i < 2 ^ 31 by omega)]
    by_cases e : i = i0
    · rw [e]
      refine br_t ho ⟨pk_in i0 16 (by omega), nm_r hv ?_⟩
      rcases hn with ⟨e1, e2⟩ | ⟨e1, e2⟩
      · refine br_t e1 (And.intro (pk_in i0 16 (by omega)) (nm_r (e' := upd a6 i0 nv) ?_ (And.intro (pk_in i0 16 (by omega)) (nm_r (e' := upd a7 i0 (nI t)) ?_ (nm_r (nI_1 i0) ?_)))))
        · rw [nI_clamp (show i0 < 2 ^ 31 by omega), e2]
        · rw [nI_clamp (show i0 < 2 ^ 31 by omega)]
        · exact po_ac_hi hl (po_ulk hw ht) hc hE H n (i0 + 1) (by omega) (by omega) (fun q q1 q2 => hu q q2 (by omega))
      · refine br_f e1 (And.intro (pk_in i0 16 (by omega)) (nm_r (e' := upd a6 i0 nv) ?_ (And.intro (pk_in i0 16 (by omega)) (nm_r (e' := upd a7 i0 (nI t)) ?_ (nm_r (nI_1 i0) ?_)))))
        · rw [nI_clamp (show i0 < 2 ^ 31 by omega), e2]
        · rw [nI_clamp (show i0 < 2 ^ 31 by omega)]
        · exact po_ac_hi hl (po_ulk hw ht) hc hE H n (i0 + 1) (by omega) (by omega) (fun q q1 q2 => hu q q2 (by omega))
    · exact br_f (hu i (by omega) e) (nm_r (nI_1 i) (ih (i + 1) x6 (by omega) (by omega)))
def po_M (s ky : Int32) (a1 a2 a3 a4 a5 a6 a7 : Nat → Int32) (lf : Nat → Nat) (V : Nat → Int32) : Prop :=
  ∃ k : Nat, s = nI k ∧ po_SK ky a4 a1 a2 a3 a5 a6 a7 k lf V ∧ (∀ b, b < 16 → lf b < 8)
/-- the whole invariant: the blocks hold V -/
def po_I (s m ky : Int32) (a1 a2 a3 a4 a5 a6 a7 a8 a9 a10 a11 a12 a13 a14 : Nat → Int32) (V : Nat → Int32) : Prop :=
  ∃ lf : Nat → Nat, po_M s ky a1 a2 a3 a4 a5 a6 a7 lf V ∧ po_P m a8 a9 a10 a11 a12 a13 a14 lf
theorem po_access {post : Int32 → St2 → Prop} {s m rn ky tn : Int32} {a1 a2 a3 a4 a5 a6 a7 a8 a9 a10 a11 a12 a13 a14 a15 a16 : Nat → Int32} {b : Nat} {ch v nv : Int32} {V : Nat → Int32} (hb : b < 16) (hI : po_I s m ky a1 a2 a3 a4 a5 a6 a7 a8 a9 a10 a11 a12 a13 a14 V) (hn : (ch = 0 ∧ nv = V b) ∨ (¬ ch = 0 ∧ nv = v))
    (H : ∀ (s' m' rn' : Int32) (a1' a2' a3' a4' a5' a6' a7' a8' a9' a10' a11' a12' a13' a14' : Nat → Int32), po_I s' m' ky a1' a2' a3' a4' a5' a6' a7' a8' a9' a10' a11' a12' a13' a14' (upd V b nv) → post (V b) (s', m', rn', ky, 4, a1', a2', a3', a4', a5', a6', a7', a8', a9', a10', a11', a12', a13', a14', a15, a16)) : wpX_access post (s, m, rn, ky, tn, a1, a2, a3, a4, a5, a6, a7, a8, a9, a10, a11, a12, a13, a14, a15, a16) (nI b) ch v := by
  obtain ⟨lf, ⟨k, hs, hS, hlf⟩, hP⟩ := hI
  rw [hs]
  unfold wpX_access
  refine po_nx (fun r rn1 => ?_)
  obtain ⟨t, ht, et⟩ := po_and7 r
  refine nm_r et (po_leafOf hb hP (Or.inr ⟨t, ht, rfl, rfl⟩) (fun m' rn2 a8' a9' a10' a11' a12' a13' a14' hP' => ?_))
  refine po_rp (hlf b hb) hS (fun k1 a1' a5' a6' a7' g1 g2 => ?_)
  obtain ⟨i0, h0, ho, hv, hu⟩ := po_find (by omega) g1 hb g2
  refine ⟨k1 + 1, po_acl (hlf b hb) hb ht hlf g1 g2 h0 ho hv hu hn (fun k' rn' b1 b2 b3 b4 b5 b6 b7 g => ?_) (k1 + 1) 0 0 (by omega) (by omega)⟩
  rw [show (0 : Int32) + 4 = 4 by decide]
  exact H _ _ _ _ _ _ _ _ _ _ _ _ _ _ _ _ _ ⟨po_ul lf b t, ⟨k', rfl, g, po_ulk hlf ht⟩, hP'⟩
end
section
/-! the walks once more, for gather: printed by gen2.py -/
theorem po_nx4 {post : Int32 → St2 → Prop} {s m rn ky tn : Int32} {a1 a2 a3 a4 a5 a6 a7 a8 a9 a10 a11 a12 a13 a14 a15 a16 : Nat → Int32} (H : ∀ r rn', post r (s, m, rn', ky, tn, a1, a2, a3, a4, a5, a6, a7, a8, a9, a10, a11, a12, a13, a14, a15, a16)) : wpX_next_4 post (s, m, rn, ky, tn, a1, a2, a3, a4, a5, a6, a7, a8, a9, a10, a11, a12, a13, a14, a15, a16) := nm_e (nm_e (nm_e (H _ _)))
theorem po_nx5 {post : Int32 → St2 → Prop} {s m rn ky tn : Int32} {a1 a2 a3 a4 a5 a6 a7 a8 a9 a10 a11 a12 a13 a14 a15 a16 : Nat → Int32} (H : ∀ r rn', post r (s, m, rn', ky, tn, a1, a2, a3, a4, a5, a6, a7, a8, a9, a10, a11, a12, a13, a14, a15, a16)) : wpX_next_5 post (s, m, rn, ky, tn, a1, a2, a3, a4, a5, a6, a7, a8, a9, a10, a11, a12, a13, a14, a15, a16) := nm_e (nm_e (nm_e (H _ _)))
theorem po_nx6 {post : Int32 → St2 → Prop} {s m rn ky tn : Int32} {a1 a2 a3 a4 a5 a6 a7 a8 a9 a10 a11 a12 a13 a14 a15 a16 : Nat → Int32} (H : ∀ r rn', post r (s, m, rn', ky, tn, a1, a2, a3, a4, a5, a6, a7, a8, a9, a10, a11, a12, a13, a14, a15, a16)) : wpX_next_6 post (s, m, rn, ky, tn, a1, a2, a3, a4, a5, a6, a7, a8, a9, a10, a11, a12, a13, a14, a15, a16) := nm_e (nm_e (nm_e (H _ _)))
theorem po_rm18_q {post : St2 → Prop} {J2 : Int32 → Int32 → (Nat → Int32) → (Nat → Int32) → (Nat → Int32) → (Nat → Int32) → (Nat → Int32) → (Nat → Int32) → (Nat → Int32) → (Nat → Int32) → (Nat → Int32) → (Nat → Int32) → (Nat → Int32) → (Nat → Int32) → (Nat → Int32) → (Nat → Int32) → (Nat → Int32) → (Nat → Int32) →  Prop} {x1 x2 s rn ky tn : Int32} {B : Nat} (hB0 : 1 ≤ B) (hB : B < 8) {wl : Nat → Nat} {W : Nat → Int32} :
    ∀ (n j k : Nat) (a1 a2 a3 a4 a5 a6 a7 a8 a9 a10 a11 a12 a13 a14 a15 a16 : Nat → Int32), 2 * B ≤ j → j ≤ 2 * B + 2 → 2 * B + 2 - j < n → po_SM a8 a9 a10 a11 a12 a13 k wl W →
    (∀ i, i / 2 = B → i < j → a8 i = -1) →
    (∀ (k' : Nat) (a8' a11' a12' a13' : Nat → Int32), po_SM a8' a9 a10 a11' a12' a13' k' wl W → (∀ i, i / 2 = B → a8' i = -1) → (∀ i, a8 i = -1 → a8' i = -1) → J2 (x2 + 1) (nI k') a1 a2 a3 a4 a5 a6 a7 a8' a9 a10 a11' a12' a13' a14 a15 a16) →
    wX_readMapPath_2_18 post J2 x1 x2 (nI B) s rn ky tn n (nI j) (nI k) a1 a2 a3 a4 a5 a6 a7 a8 a9 a10 a11 a12 a13 a14 a15 a16 := by
  intro n
  induction n with
  | zero => intro j k a1 a2 a3 a4 a5 a6 a7 a8 a9 a10 a11 a12 a13 a14 a15 a16 h1 h2 h3; omega
  | succ n ih =>
    intro j k a1 a2 a3 a4 a5 a6 a7 a8 a9 a10 a11 a12 a13 a14 a15 a16 h1 h2 h3 hS hE H
    have hk := po_le hS
    refine pk_le (2 * B + 2) j (fun z => nm_e (H k a8 a11 a12 a13 hS (fun i h => hE i h (by omega)) (fun i h => h))) (fun z => ⟨pk_in j 16 (by omega), ?_⟩) (po_2B B)
    rw [nI_clamp (show j < 2 ^ 31 by omega)]
    refine br_c (fun e => nm_r (nI_1 j) ?_) (fun e => ?_)
    · refine ih (j + 1) k a1 a2 a3 a4 a5 a6 a7 a8 a9 a10 a11 a12 a13 a14 a15 a16 (by omega) (by omega) (by omega) hS (fun i i1 i2 => ?_) H
      by_cases q : i = j
      · rw [q]
        exact e
      · exact hE i i1 (by omega)
    · have hr := po_room hS (show 2 ≤ j by omega) (show j < 16 by omega) e
      refine pk_le 4 k (fun z => absurd z (by omega)) (fun z' => ?_)
      rw [nI_clamp (show k < 2 ^ 31 by omega)]
      refine ⟨pk_in j 16 (by omega), pk_in k 4 (by omega), nm_e ⟨pk_in j 16 (by omega), pk_in k 4 (by omega), nm_e ⟨pk_in j 16 (by omega), pk_in k 4 (by omega), nm_e ⟨pk_in j 16 (by omega), nm_e (nm_r (nI_1 k) (nm_r (nI_1 j) ?_))⟩⟩⟩⟩
      refine ih (j + 1) (k + 1) a1 a2 a3 a4 a5 a6 a7 (upd a8 j (-1)) a9 a10 (upd a11 k (a8 j)) (upd a12 k (a9 j)) (upd a13 k (a10 j)) a14 a15 a16 (by omega) (by omega) (by omega) (po_takeM hS (by omega) (by omega) e) (fun i i1 i2 => ?_) (fun k' a8' a11' a12' a13' g1 g2 g3 => H k' a8' a11' a12' a13' g1 g2 (fun i hi => g3 i ?_))
      · by_cases q : i = j
        · rw [q, pk_us]
        · rw [pk_un q]
          exact hE i i1 (by omega)
      · by_cases q : i = j
        · rw [q, pk_us]
        · rw [pk_un q]
          exact hi
theorem po_rm2_q {post : St2 → Prop} {s rn ky tn : Int32} {l : Nat} (hl : l < 4) {wl : Nat → Nat} {W : Nat → Int32} :
    ∀ (n lv k : Nat) (a1 a2 a3 a4 a5 a6 a7 a8 a9 a10 a11 a12 a13 a14 a15 a16 : Nat → Int32), lv ≤ 3 → 3 - lv < n → po_SM a8 a9 a10 a11 a12 a13 k wl W → (∀ lw i, lw < lv → i / 2 = po_bm l lw → a8 i = -1) →
    (∀ (k' : Nat) (a8' a11' a12' a13' : Nat → Int32), po_SM a8' a9 a10 a11' a12' a13' k' wl W → (∀ i, po_onm l i → a8' i = -1) → post (s, (nI k'), rn, ky, tn, a1, a2, a3, a4, a5, a6, a7, a8', a9, a10, a11', a12', a13', a14, a15, a16)) →
    wX_readMapPath_2_2 post (nI l) s rn ky tn n (nI lv) (nI k) a1 a2 a3 a4 a5 a6 a7 a8 a9 a10 a11 a12 a13 a14 a15 a16 := by
  intro n
  induction n with
  | zero => intro lv k a1 a2 a3 a4 a5 a6 a7 a8 a9 a10 a11 a12 a13 a14 a15 a16 h1 h2; omega
  | succ n ih =>
    intro lv k a1 a2 a3 a4 a5 a6 a7 a8 a9 a10 a11 a12 a13 a14 a15 a16 h1 h2 hS hE H
    refine pk_le 3 lv (fun z => H k a8 a11 a12 a13 hS (fun i ⟨lw, g1, g2⟩ => hE lw i (by omega) g2)) (fun z => po_mbk hl (by omega) (nm_r (po_2m _) ⟨3, ?_⟩))
    have hb := po_bm_lt l hl lv z
    refine po_rm18_q hb.1 hb.2 3 (2 * po_bm l lv) k a1 a2 a3 a4 a5 a6 a7 a8 a9 a10 a11 a12 a13 a14 a15 a16 (by omega) (by omega) (by omega) hS (fun i i1 i2 => absurd i1 (by omega)) (fun k' a8' a11' a12' a13' g1 g2 g3 => ?_)
    rw [nI_1]
    refine ih (lv + 1) k' a1 a2 a3 a4 a5 a6 a7 a8' a9 a10 a11' a12' a13' a14 a15 a16 (by omega) (by omega) g1 (fun lw i q1 q2 => ?_) H
    by_cases q : lw = lv
    · exact g2 i (by rw [← q]; exact q2)
    · exact g3 i (hE lw i (by omega) q2)
theorem po_rm_q {post : St2 → Prop} {s rn ky tn : Int32} {a1 a2 a3 a4 a5 a6 a7 a8 a9 a10 a11 a12 a13 a14 a15 a16 : Nat → Int32} {l k : Nat} (hl : l < 4) {wl : Nat → Nat} {W : Nat → Int32} (hS : po_SM a8 a9 a10 a11 a12 a13 k wl W)
    (H : ∀ (k' : Nat) (a8' a11' a12' a13' : Nat → Int32), po_SM a8' a9 a10 a11' a12' a13' k' wl W → (∀ i, po_onm l i → a8' i = -1) → post (s, (nI k'), rn, ky, tn, a1, a2, a3, a4, a5, a6, a7, a8', a9, a10, a11', a12', a13', a14, a15, a16)) :
    wpX_readMapPath_2 post (s, (nI k), rn, ky, tn, a1, a2, a3, a4, a5, a6, a7, a8, a9, a10, a11, a12, a13, a14, a15, a16) (nI l) :=
  ⟨4, po_rm2_q hl 4 0 k a1 a2 a3 a4 a5 a6 a7 a8 a9 a10 a11 a12 a13 a14 a15 a16 (by omega) (by omega) hS (fun lw i h => absurd h (by omega)) H⟩
theorem po_wm17_q {post : St2 → Prop} {J2 : Int32 → Int32 → (Nat → Int32) → (Nat → Int32) → (Nat → Int32) → (Nat → Int32) → (Nat → Int32) → (Nat → Int32) → (Nat → Int32) → (Nat → Int32) → (Nat → Int32) → (Nat → Int32) → (Nat → Int32) → (Nat → Int32) → (Nat → Int32) → (Nat → Int32) → (Nat → Int32) → (Nat → Int32) →  Prop} {s rn ky tn : Int32} {l lv B : Nat} (hl : l < 4) (hv : lv < 3) (hB : B = po_bm l lv) {wl : Nat → Nat} {W : Nat → Int32} (hw : ∀ w, w < 4 → wl w < 4) :
    ∀ (n j k : Nat) (a1 a2 a3 a4 a5 a6 a7 a8 a9 a10 a11 a12 a13 a14 a15 a16 : Nat → Int32), 2 * B ≤ j → j ≤ 2 * B + 2 → 2 * B + 2 - j < n → po_SM a8 a9 a10 a11 a12 a13 k wl W →
    (∀ (k' : Nat) (a8' a9' a10' a11' a12' a13' : Nat → Int32), po_SM a8' a9' a10' a11' a12' a13' k' wl W → J2 (nI lv + (-1)) (nI k') a1 a2 a3 a4 a5 a6 a7 a8' a9' a10' a11' a12' a13' a14 a15 a16) →
    wX_writeMapPath_2_17 post J2 (nI l) (nI lv) (nI B) s rn ky tn n (nI j) (nI k) a1 a2 a3 a4 a5 a6 a7 a8 a9 a10 a11 a12 a13 a14 a15 a16 := by
  have hb := po_bm_lt l hl lv hv
  rw [← hB] at hb
  intro n
  induction n with
  | zero => intro j k a1 a2 a3 a4 a5 a6 a7 a8 a9 a10 a11 a12 a13 a14 a15 a16 h1 h2 h3; omega
  | succ n ih =>
    intro j k a1 a2 a3 a4 a5 a6 a7 a8 a9 a10 a11 a12 a13 a14 a15 a16 h1 h2 h3 hS H
    have hk := po_le hS
    refine pk_le (2 * B + 2) j (fun z => nm_e (H k a8 a9 a10 a11 a12 a13 hS)) (fun z => ?_) (po_2B B)
    refine po_mf hl hv hw hS ⟨pk_in j 16 (by omega), ?_⟩ (fun i hi hf => ⟨pk_in j 16 (by omega), ?_⟩)
    · exact br_c (fun _ => br_t rfl (nm_r (nI_1 j) (ih (j + 1) k a1 a2 a3 a4 a5 a6 a7 a8 a9 a10 a11 a12 a13 a14 a15 a16 (by omega) (by omega) (by omega) hS H))) (fun _ => nm_r (nI_1 j) (ih (j + 1) k a1 a2 a3 a4 a5 a6 a7 a8 a9 a10 a11 a12 a13 a14 a15 a16 (by omega) (by omega) (by omega) hS H))
    · rw [nI_clamp (show j < 2 ^ 31 by omega)]
      refine br_c (fun e => br_f (po_m1 (by omega)) ?_) (fun _ => nm_r (nI_1 j) (ih (j + 1) k a1 a2 a3 a4 a5 a6 a7 a8 a9 a10 a11 a12 a13 a14 a15 a16 (by omega) (by omega) (by omega) hS H))
      rw [nI_clamp (show i < 2 ^ 31 by omega)]
      refine nm_r (pk_sub (show 1 ≤ k by omega)) ⟨pk_in i 4 (by omega), pk_in j 16 (by omega), nm_e ⟨pk_in i 4 (by omega), pk_in j 16 (by omega), nm_e ⟨pk_in i 4 (by omega), pk_in j 16 (by omega), nm_e ⟨pk_in (k - 1) 4 (by omega), pk_in i 4 (by omega), nm_e ⟨pk_in (k - 1) 4 (by omega), pk_in i 4 (by omega), nm_e ⟨pk_in (k - 1) 4 (by omega), pk_in i 4 (by omega), nm_e (nm_r (nI_1 j) ?_)⟩⟩⟩⟩⟩⟩
      rw [nI_clamp (show k - 1 < 2 ^ 31 by omega)]
      refine ih (j + 1) (k - 1) a1 a2 a3 a4 a5 a6 a7 (upd a8 j (a11 i)) (upd a9 j (a12 i)) (upd a10 j (a13 i)) (upd a11 i (a11 (k - 1))) (upd a12 i (a12 (k - 1))) (upd a13 i (a13 (k - 1))) a14 a15 a16 (by omega) (by omega) (by omega) (po_settleM hS (by omega) (by omega) e hi (fun b hb1 hb2 => ⟨lv, hv, ?_⟩)) H
      rw [hf (wl b) (hw b hb1) hb2]
      omega
theorem po_wm2_q {post : St2 → Prop} {s rn ky tn : Int32} {l : Nat} (hl : l < 4) {wl : Nat → Nat} {W : Nat → Int32} (hw : ∀ w, w < 4 → wl w < 4) :
    ∀ (d k : Nat) (a1 a2 a3 a4 a5 a6 a7 a8 a9 a10 a11 a12 a13 a14 a15 a16 : Nat → Int32), d ≤ 3 → po_SM a8 a9 a10 a11 a12 a13 k wl W →
    (∀ (k' : Nat) (a8' a9' a10' a11' a12' a13' : Nat → Int32), po_SM a8' a9' a10' a11' a12' a13' k' wl W → post (s, (nI k'), rn, ky, tn, a1, a2, a3, a4, a5, a6, a7, a8', a9', a10', a11', a12', a13', a14, a15, a16)) →
    wX_writeMapPath_2_2 post (nI l) s rn ky tn (d + 1) (po_lv d) (nI k) a1 a2 a3 a4 a5 a6 a7 a8 a9 a10 a11 a12 a13 a14 a15 a16 := by
  intro d
  induction d with
  | zero =>
    intro k a1 a2 a3 a4 a5 a6 a7 a8 a9 a10 a11 a12 a13 a14 a15 a16 h1 hS H
    exact br_t (show (-1 : Int32) < 0 by decide) (H k a8 a9 a10 a11 a12 a13 hS)
  | succ d ih =>
    intro k a1 a2 a3 a4 a5 a6 a7 a8 a9 a10 a11 a12 a13 a14 a15 a16 h1 hS H
    show wX_writeMapPath_2_2 post (nI l) s rn ky tn (d + 1 + 1) (nI d) (nI k) a1 a2 a3 a4 a5 a6 a7 a8 a9 a10 a11 a12 a13 a14 a15 a16
    refine br_f (nI_pos (show d < 2 ^ 31 by omega)) (po_mbk hl (by omega) (nm_r (po_2m _) ⟨3, ?_⟩))
    refine po_wm17_q hl (by omega) rfl hw 3 (2 * po_bm l d) k a1 a2 a3 a4 a5 a6 a7 a8 a9 a10 a11 a12 a13 a14 a15 a16 (by omega) (by omega) (by omega) hS (fun k' a8' a9' a10' a11' a12' a13' g1 => ?_)
    rw [po_lv1]
    exact ih k' a1 a2 a3 a4 a5 a6 a7 a8' a9' a10' a11' a12' a13' a14 a15 a16 (by omega) g1 H
theorem po_wm_q {post : St2 → Prop} {s rn ky tn : Int32} {a1 a2 a3 a4 a5 a6 a7 a8 a9 a10 a11 a12 a13 a14 a15 a16 : Nat → Int32} {l k : Nat} (hl : l < 4) {wl : Nat → Nat} {W : Nat → Int32} (hw : ∀ w, w < 4 → wl w < 4) (hS : po_SM a8 a9 a10 a11 a12 a13 k wl W)
    (H : ∀ (k' : Nat) (a8' a9' a10' a11' a12' a13' : Nat → Int32), po_SM a8' a9' a10' a11' a12' a13' k' wl W → post (s, (nI k'), rn, ky, tn, a1, a2, a3, a4, a5, a6, a7, a8', a9', a10', a11', a12', a13', a14, a15, a16)) :
    wpX_writeMapPath_2 post (s, (nI k), rn, ky, tn, a1, a2, a3, a4, a5, a6, a7, a8, a9, a10, a11, a12, a13, a14, a15, a16) (nI l) :=
  ⟨4, po_wm2_q hl hw 3 k a1 a2 a3 a4 a5 a6 a7 a8 a9 a10 a11 a12 a13 a14 a15 a16 (by omega) hS H⟩
theorem po_lf_hi_q {post : Int32 → St2 → Prop} {p1 x4 x6 s rn ky tn : Int32} {w l k : Nat} {a1 a2 a3 a4 a5 a6 a7 a8 a9 a10 a11 a12 a13 a14 a15 a16 : Nat → Int32} (hl : l < 4) {wl : Nat → Nat} {W : Nat → Int32} (hw : ∀ w, w < 4 → wl w < 4) (hS : po_SM a8 a9 a10 a11 a12 a13 k wl W)
    (H : ∀ (k' : Nat) (a8' a9' a10' a11' a12' a13' : Nat → Int32), po_SM a8' a9' a10' a11' a12' a13' k' wl W → post x6 (s, (nI k'), rn, ky, tn, a1, a2, a3, a4, a5, a6, a7, a8', a9', a10', a11', a12', a13', a14, a15, a16)) :
    ∀ (n i : Nat), i ≤ k → k - i < n → (∀ q, i ≤ q → q < k → a11 q ≠ nI w) → wX_leafOf_2_43 post p1 (nI w) x4 (nI l) s (nI k) rn ky tn n x6 (nI i) a1 a2 a3 a4 a5 a6 a7 a8 a9 a10 a11 a12 a13 a14 a15 a16 := by
  have hk := po_le hS
  intro n
  induction n with
  | zero => intro i h1 h2; omega
  | succ n ih =>
    intro i h1 h2 hq
    refine pk_le k i (fun z => po_wm_q hl hw hS H) (fun z => ⟨pk_in i 4 (by omega), ?_⟩)
    rw [nI_clamp (show i < 2 ^ 31 by omega)]
    exact br_f (hq i (by omega) z) (nm_r (nI_1 i) (ih (i + 1) (by omega) (by omega) (fun q h1 h2 => hq q (by omega) h2)))
theorem po_lfl_q {post : Int32 → St2 → Prop} {p1 s rn ky tn nw : Int32} {w l k i0 t r : Nat} {a1 a2 a3 a4 a5 a6 a7 a8 a9 a10 a11 a12 a13 a14 a15 a16 : Nat → Int32} {wl : Nat → Nat} {W : Nat → Int32} (hl : l < 4) (hw4 : w < 4) (ht : t < 4) (hw : ∀ w, w < 4 → wl w < 4) (hS : po_SM a8 a9 a10 a11 a12 a13 k wl W)
    (h0 : i0 < k) (ho : a11 i0 = nI w) (hv : a12 i0 = W w) (hu : ∀ q, q < k → q ≠ i0 → a11 q ≠ nI w) (ha : a14 w = nI t)
    (hn : (p1 = -1 ∧ nw = W w) ∨ (¬ p1 = -1 ∧ nw = ((W w &&& (((7 : Int32) <<< (nI (3 * r) &&& 31)) ^^^ (-1))) ||| (p1 <<< (nI (3 * r) &&& 31)))))
    (H : ∀ (k' : Nat) (a8' a9' a10' a11' a12' a13' : Nat → Int32), po_SM a8' a9' a10' a11' a12' a13' k' (po_ul wl w t) (upd W w nw) → post (po_fd r (W w)) (s, (nI k'), rn, ky, tn, a1, a2, a3, a4, a5, a6, a7, a8', a9', a10', a11', a12', a13', a14, a15, a16)) :
    ∀ (n i : Nat) (x6 : Int32), i ≤ i0 → k - i < n → wX_leafOf_2_43 post p1 (nI w) (nI (3 * r)) (nI l) s (nI k) rn ky tn n x6 (nI i) a1 a2 a3 a4 a5 a6 a7 a8 a9 a10 a11 a12 a13 a14 a15 a16 := by
  have hk := po_le hS
  have hc : po_SM a8 a9 a10 a11 (upd a12 i0 nw) (upd a13 i0 (nI t)) k (po_ul wl w t) (upd W w nw) := po_change (by omega) hS hw4 h0 ho
  intro n
  induction n with
  | zero => intro i x6 h1 h2; omega
  | succ n ih =>
    intro i x6 h1 h2
    refine pk_le k i (fun z => absurd z (by omega)) (fun z => ⟨pk_in i 4 (by omega), ?_⟩)
    rw [nI_clamp (show i < 2 ^ 31 by omega)]
    by_cases e : i = i0
    · rw [e]
      refine br_t ho ⟨pk_in i0 4 (by omega), nm_r hv (nm_e ?_)⟩
      rcases hn with ⟨e1, e2⟩ | ⟨e1, e2⟩
      · refine br_t e1 (And.intro (pk_in w 4 hw4) (And.intro (pk_in i0 4 (by omega)) (nm_r (e' := upd a13 i0 (nI t)) ?_ (nm_r (nI_1 i0) ?_))))
        · rw [nI_clamp (show i0 < 2 ^ 31 by omega), nI_clamp (show w < 2 ^ 31 by omega), ha]
        · rw [e2, ← hv, po_upself, hv, ← e2] at hc
          exact po_lf_hi_q hl (po_ulb hw ht) hc H n (i0 + 1) (by omega) (by omega) (fun q q1 q2 => hu q q2 (by omega))
      · refine br_f e1 ⟨pk_in i0 4 (by omega), nm_r (e' := upd a12 i0 nw) ?_ (And.intro (pk_in w 4 hw4) (And.intro (pk_in i0 4 (by omega)) (nm_r (e' := upd a13 i0 (nI t)) ?_ (nm_r (nI_1 i0) ?_))))⟩
        · rw [e2]
        · rw [nI_clamp (show i0 < 2 ^ 31 by omega), nI_clamp (show w < 2 ^ 31 by omega), ha]
        · exact po_lf_hi_q hl (po_ulb hw ht) hc H n (i0 + 1) (by omega) (by omega) (fun q q1 q2 => hu q q2 (by omega))
    · exact br_f (hu i (by omega) e) (nm_r (nI_1 i) (ih (i + 1) x6 (by omega) (by omega)))
theorem po_leafOf_q {post : Int32 → St2 → Prop} {p1 : Int32} {b : Nat} {s m rn ky tn : Int32} {a1 a2 a3 a4 a5 a6 a7 a8 a9 a10 a11 a12 a13 a14 a15 a16 : Nat → Int32} {lf lf' : Nat → Nat} (hb : b < 16) (hP : po_P m a8 a9 a10 a11 a12 a13 a14 lf) (hp : (p1 = -1 ∧ lf' = lf) ∨ (∃ t, t < 8 ∧ p1 = nI t ∧ lf' = po_ul lf b t))
    (H : ∀ (m' rn' : Int32) (a8' a9' a10' a11' a12' a13' a14' : Nat → Int32), po_P m' a8' a9' a10' a11' a12' a13' a14' lf' → post (nI (lf b)) (s, m', rn', ky, tn, a1, a2, a3, a4, a5, a6, a7, a8', a9', a10', a11', a12', a13', a14', a15, a16)) :
    wpX_leafOf_2 post (s, m, rn, ky, tn, a1, a2, a3, a4, a5, a6, a7, a8, a9, a10, a11, a12, a13, a14, a15, a16) (nI b) p1 := by
  obtain ⟨k, wl, W, hm, hS, hwl, hfd⟩ := hP
  rw [hm]
  have hw : ∀ w, w < 4 → wl w < 4 := fun w h => (hwl w h).1
  have hq : b / 4 < 4 := by omega
  have hr : b % 4 < 4 := by omega
  have hbq : 4 * (b / 4) + b % 4 = b := by omega
  refine nm_r (po_b3 b hb).1 (nm_r (po_b3 b hb).2 ⟨pk_in (b / 4) 4 hq, nm_r (e' := nI (wl (b / 4))) ?_ (po_nx5 (fun r rn' => ⟨pk_in (b / 4) 4 hq, ?_⟩))⟩)
  · rw [nI_clamp (show b / 4 < 2 ^ 31 by omega)]
    exact (hwl _ hq).2
  · obtain ⟨t, ht, et⟩ := po_and3 r
    rw [et, nI_clamp (show b / 4 < 2 ^ 31 by omega)]
    refine nm_e (po_rm_q (hw _ hq) hS (fun k' a8' a11' a12' a13' g1 g2 => ?_))
    obtain ⟨i0, h0, ho, hv, hu⟩ := po_find (by omega) g1 hq g2
    have hF : ∀ (nw : Int32), (∀ w r, w < 4 → r < 4 → po_fd r (upd W (b / 4) nw w) = nI (lf' (4 * w + r))) → (∀ (k' : Nat) (a8' a9' a10' a11' a12' a13' : Nat → Int32), po_SM a8' a9' a10' a11' a12' a13' k' (po_ul wl (b / 4) t) (upd W (b / 4) nw) → post (po_fd (b % 4) (W (b / 4))) (s, (nI k'), rn', ky, tn, a1, a2, a3, a4, a5, a6, a7, a8', a9', a10', a11', a12', a13', (upd a14 (b / 4) (nI t)), a15, a16)) := by
      intro nw hnw k' a8' a9' a10' a11' a12' a13' g
      rw [hfd _ _ hq hr, hbq]
      refine H _ _ _ _ _ _ _ _ _ ⟨k', po_ul wl (b / 4) t, upd W (b / 4) nw, rfl, g, fun w h => ⟨po_ulb hw ht w h, ?_⟩, hnw⟩
      by_cases e : w = b / 4
      · rw [e, pk_us, po_uls]
      · rw [pk_un e, po_uln e]
        exact (hwl w h).2
    rcases hp with ⟨e1, e2⟩ | ⟨t', ht', e1, e2⟩
    · refine ⟨k' + 1, po_lfl_q (hw _ hq) hq ht hw g1 h0 ho hv hu pk_us (Or.inl ⟨e1, rfl⟩) (hF (W (b / 4)) ?_) (k' + 1) 0 0 (by omega) (by omega)⟩
      rw [po_upself, e2]
      exact hfd
    · refine ⟨k' + 1, po_lfl_q (hw _ hq) hq ht hw g1 h0 ho hv hu pk_us (Or.inr ⟨by rw [e1]; exact po_m1 (by omega), rfl⟩) (hF _ ?_) (k' + 1) 0 0 (by omega) (by omega)⟩
      intro w r' hw' hr'
      rw [e1, e2]
      by_cases e : w = b / 4
      · rw [e, pk_us, po_fd_set hr' hr ht']
        by_cases e' : r' = b % 4
        · rw [if_pos e', e', hbq, po_uls]
        · rw [if_neg e', po_uln (by omega)]
          exact hfd _ _ hq hr'
      · rw [pk_un e, po_uln (by omega)]
        exact hfd _ _ hw' hr'
theorem po_rp28_q {post : St2 → Prop} {J2 : Int32 → Int32 → Int32 → (Nat → Int32) → (Nat → Int32) → (Nat → Int32) → (Nat → Int32) → (Nat → Int32) → (Nat → Int32) → (Nat → Int32) → (Nat → Int32) → (Nat → Int32) → (Nat → Int32) → (Nat → Int32) → (Nat → Int32) → (Nat → Int32) → (Nat → Int32) → (Nat → Int32) → (Nat → Int32) →  Prop} {x1 x2 m rn ky tn : Int32} {B : Nat} (hB0 : 1 ≤ B) (hB : B < 16) {lf : Nat → Nat} {V : Nat → Int32} :
    ∀ (n j k : Nat) (a1 a2 a3 a4 a5 a6 a7 a8 a9 a10 a11 a12 a13 a14 a15 a16 : Nat → Int32), 4 * B ≤ j → j ≤ 4 * B + 4 → 4 * B + 4 - j < n → po_SK ky a4 a1 a2 a3 a5 a6 a7 k lf V →
    (∀ i, i / 4 = B → i < j → a1 i = -1) →
    (∀ (k' : Nat) (a1' a5' a6' a7' : Nat → Int32), po_SK ky a4 a1' a2 a3 a5' a6' a7' k' lf V → (∀ i, i / 4 = B → a1' i = -1) → (∀ i, a1 i = -1 → a1' i = -1) → J2 (x2 + 1) (nI k') tn a1' a2 a3 a4 a5' a6' a7' a8 a9 a10 a11 a12 a13 a14 a15 a16) →
    wX_readPath_2_28 post J2 x1 x2 (nI B) m rn ky tn n (nI j) (nI k) a1 a2 a3 a4 a5 a6 a7 a8 a9 a10 a11 a12 a13 a14 a15 a16 := by
  intro n
  induction n with
  | zero => intro j k a1 a2 a3 a4 a5 a6 a7 a8 a9 a10 a11 a12 a13 a14 a15 a16 h1 h2 h3; omega
  | succ n ih =>
    intro j k a1 a2 a3 a4 a5 a6 a7 a8 a9 a10 a11 a12 a13 a14 a15 a16 h1 h2 h3 hS hE H
    have hk := po_le hS
    refine pk_le (4 * B + 4) j (fun z => nm_e (H k a1 a5 a6 a7 hS (fun i h => hE i h (by omega)) (fun i h => h))) (fun z => ⟨pk_in j 64 (by omega), ?_⟩) (po_4B B)
    rw [nI_clamp (show j < 2 ^ 31 by omega)]
    refine br_c (fun e => nm_r (nI_1 j) ?_) (fun e => ?_)
    · refine ih (j + 1) k a1 a2 a3 a4 a5 a6 a7 a8 a9 a10 a11 a12 a13 a14 a15 a16 (by omega) (by omega) (by omega) hS (fun i i1 i2 => ?_) H
      by_cases q : i = j
      · rw [q]
        exact e
      · exact hE i i1 (by omega)
    · have hr := po_room hS (show 4 ≤ j by omega) (show j < 64 by omega) e
      refine pk_le 16 k (fun z => absurd z (by omega)) (fun z' => ?_)
      rw [nI_clamp (show k < 2 ^ 31 by omega)]
      refine ⟨pk_in j 64 (by omega), pk_in k 16 (by omega), nm_e ⟨pk_in j 64 (by omega), po_wpad (by omega) ⟨pk_in k 16 (by omega), nm_e ⟨pk_in j 64 (by omega), pk_in k 16 (by omega), nm_e ⟨pk_in j 64 (by omega), nm_e (nm_r (nI_1 k) (nm_r (nI_1 j) ?_))⟩⟩⟩⟩⟩
      refine ih (j + 1) (k + 1) (upd a1 j (-1)) a2 a3 a4 (upd a5 k (a1 j)) (upd a6 k (a2 j ^^^ po_pd ky a4 j)) (upd a7 k (a3 j)) a8 a9 a10 a11 a12 a13 a14 a15 a16 (by omega) (by omega) (by omega) (po_take hS (by omega) (by omega) e) (fun i i1 i2 => ?_) (fun k' a1' a5' a6' a7' g1 g2 g3 => H k' a1' a5' a6' a7' g1 g2 (fun i hi => g3 i ?_))
      · by_cases q : i = j
        · rw [q, pk_us]
        · rw [pk_un q]
          exact hE i i1 (by omega)
      · by_cases q : i = j
        · rw [q, pk_us]
        · rw [pk_un q]
          exact hi
theorem po_rp2_q {post : St2 → Prop} {m rn ky : Int32} {l : Nat} (hl : l < 8) {lf : Nat → Nat} {V : Nat → Int32} {tz : Int32} :
    ∀ (n lv k : Nat) (a1 a2 a3 a4 a5 a6 a7 a8 a9 a10 a11 a12 a13 a14 a15 a16 : Nat → Int32), lv ≤ 4 → 4 - lv < n → po_SK ky a4 a1 a2 a3 a5 a6 a7 k lf V → (∀ lw i, lw < lv → i / 4 = po_bk l lw → a1 i = -1) →
    (∀ (k' : Nat) (a1' a5' a6' a7' : Nat → Int32), po_SK ky a4 a1' a2 a3 a5' a6' a7' k' lf V → (∀ i, po_on l i → a1' i = -1) → post ((nI k'), m, rn, ky, (tz + 4), a1', a2, a3, a4, a5', a6', a7', a8, a9, a10, a11, a12, a13, a14, a15, a16)) →
    wX_readPath_2_2 post (nI l) m rn ky n (nI lv) (nI k) (tz + nI lv) a1 a2 a3 a4 a5 a6 a7 a8 a9 a10 a11 a12 a13 a14 a15 a16 := by
  intro n
  induction n with
  | zero => intro lv k a1 a2 a3 a4 a5 a6 a7 a8 a9 a10 a11 a12 a13 a14 a15 a16 h1 h2; omega
  | succ n ih =>
    intro lv k a1 a2 a3 a4 a5 a6 a7 a8 a9 a10 a11 a12 a13 a14 a15 a16 h1 h2 hS hE H
    refine pk_le 4 lv (fun z => ?_) (fun z => po_kbk hl (by omega) (nm_e (nm_r (po_4m _) ⟨5, ?_⟩)))
    · have e4 : lv = 4 := by omega
      rw [e4]
      exact H k a1 a5 a6 a7 hS (fun i ⟨lw, g1, g2⟩ => hE lw i (by omega) g2)
    · have hb := po_bk_lt l hl lv z
      refine po_rp28_q hb.1 hb.2 5 (4 * po_bk l lv) k a1 a2 a3 a4 a5 a6 a7 a8 a9 a10 a11 a12 a13 a14 a15 a16 (by omega) (by omega) (by omega) hS (fun i i1 i2 => absurd i1 (by omega)) (fun k' a1' a5' a6' a7' g1 g2 g3 => ?_)
      rw [nI_1, Int32.add_assoc, nI_1]
      refine ih (lv + 1) k' a1' a2 a3 a4 a5' a6' a7' a8 a9 a10 a11 a12 a13 a14 a15 a16 (by omega) (by omega) g1 (fun lw i q1 q2 => ?_) H
      by_cases q : lw = lv
      · exact g2 i (by rw [← q]; exact q2)
      · exact g3 i (hE lw i (by omega) q2)
theorem po_rp_q {post : St2 → Prop} {m rn ky tn : Int32} {a1 a2 a3 a4 a5 a6 a7 a8 a9 a10 a11 a12 a13 a14 a15 a16 : Nat → Int32} {l k : Nat} (hl : l < 8) {lf : Nat → Nat} {V : Nat → Int32} (hS : po_SK ky a4 a1 a2 a3 a5 a6 a7 k lf V)
    (H : ∀ (k' : Nat) (a1' a5' a6' a7' : Nat → Int32), po_SK ky a4 a1' a2 a3 a5' a6' a7' k' lf V → (∀ i, po_on l i → a1' i = -1) → post ((nI k'), m, rn, ky, (tn + 4), a1', a2, a3, a4, a5', a6', a7', a8, a9, a10, a11, a12, a13, a14, a15, a16)) :
    wpX_readPath_2 post ((nI k), m, rn, ky, tn, a1, a2, a3, a4, a5, a6, a7, a8, a9, a10, a11, a12, a13, a14, a15, a16) (nI l) := by
  refine ⟨5, ?_⟩
  have h := po_rp2_q (post := post) (m := m) (rn := rn) (tz := tn) hl 5 0 k a1 a2 a3 a4 a5 a6 a7 a8 a9 a10 a11 a12 a13 a14 a15 a16 (by omega) (by omega) hS (fun lw i h => absurd h (by omega)) H
  rw [nI_0, Int32.add_zero] at h
  exact h
theorem po_wst_q {post : St2 → Prop} {m rn ky tn : Int32} {a1 a2 a3 a4 a5 a6 a7 a8 a9 a10 a11 a12 a13 a14 a15 a16 : Nat → Int32} {i j k : Nat} (hj : j < 64) (hi : i < k) (hk : k ≤ 16)
    (H : post ((nI (k - 1)), m, rn, ky, tn, (upd a1 j (a5 i)), (upd a2 j (a6 i ^^^ po_pd ky a4 j)), (upd a3 j (a7 i)), a4, (upd a5 i (a5 (k - 1))), (upd a6 i (a6 (k - 1))), (upd a7 i (a7 (k - 1))), a8, a9, a10, a11, a12, a13, a14, a15, a16)) :
    wpX_settle_2 post ((nI k), m, rn, ky, tn, a1, a2, a3, a4, a5, a6, a7, a8, a9, a10, a11, a12, a13, a14, a15, a16) (nI i) (nI j) := by
  unfold wpX_settle_2
  rw [nI_clamp (show i < 2 ^ 31 by omega), nI_clamp (show j < 2 ^ 31 by omega)]
  refine ⟨pk_in i 16 (by omega), pk_in j 64 hj, nm_e ⟨pk_in i 16 (by omega), po_wpad hj ⟨pk_in j 64 hj, nm_e ⟨pk_in i 16 (by omega), pk_in j 64 hj, nm_e (nm_r (pk_sub (show 1 ≤ k by omega)) ⟨pk_in (k - 1) 16 (by omega), pk_in i 16 (by omega), nm_e ⟨pk_in (k - 1) 16 (by omega), pk_in i 16 (by omega), nm_e ⟨pk_in (k - 1) 16 (by omega), pk_in i 16 (by omega), nm_e ?_⟩⟩⟩)⟩⟩⟩⟩
  rw [nI_clamp (show k - 1 < 2 ^ 31 by omega)]
  exact H
theorem po_wp27_q {post : St2 → Prop} {J2 : Int32 → Int32 → Int32 → Int32 → Int32 → Int32 → (Nat → Int32) → (Nat → Int32) → (Nat → Int32) → (Nat → Int32) → (Nat → Int32) → (Nat → Int32) → (Nat → Int32) → (Nat → Int32) → (Nat → Int32) → (Nat → Int32) → (Nat → Int32) → (Nat → Int32) → (Nat → Int32) → (Nat → Int32) → (Nat → Int32) → (Nat → Int32) →  Prop} {m ky tn : Int32} {l lv B : Nat} (hl : l < 8) (hv : lv < 4) (hB : B = po_bk l lv) {lf : Nat → Nat} {V : Nat → Int32} (hw : ∀ w, w < 16 → lf w < 8) :
    ∀ (n j k : Nat) (rn : Int32) (a1 a2 a3 a4 a5 a6 a7 a8 a9 a10 a11 a12 a13 a14 a15 a16 : Nat → Int32), 4 * B ≤ j → j ≤ 4 * B + 4 → 4 * B + 4 - j < n → po_SK ky a4 a1 a2 a3 a5 a6 a7 k lf V →
    (∀ i, i / 4 = B → j ≤ i → a1 i = -1) → (∀ lw i, lw < lv → i / 4 = po_bk l lw → a1 i = -1) →
    (∀ (k' : Nat) (rn' : Int32) (a1' a2' a3' a5' a6' a7' : Nat → Int32), po_SK ky a4 a1' a2' a3' a5' a6' a7' k' lf V → (∀ lw i, lw < lv → i / 4 = po_bk l lw → a1' i = -1) → J2 (nI lv + (-1)) (nI k') m rn' ky tn a1' a2' a3' a4 a5' a6' a7' a8 a9 a10 a11 a12 a13 a14 a15 a16) →
    wX_writePath_2_27 post J2 (nI l) (nI lv) (nI B) n (nI j) (nI k) m rn ky tn a1 a2 a3 a4 a5 a6 a7 a8 a9 a10 a11 a12 a13 a14 a15 a16 := by
  have hb := po_bk_lt l hl lv hv
  rw [← hB] at hb
  intro n
  induction n with
  | zero => intro j k rn a1 a2 a3 a4 a5 a6 a7 a8 a9 a10 a11 a12 a13 a14 a15 a16 h1 h2 h3; omega
  | succ n ih =>
    intro j k rn a1 a2 a3 a4 a5 a6 a7 a8 a9 a10 a11 a12 a13 a14 a15 a16 h1 h2 h3 hS hE hL H
    have hk := po_le hS
    refine pk_le (4 * B + 4) j (fun z => nm_e (H k rn a1 a2 a3 a5 a6 a7 hS hL)) (fun z => ?_) (po_4B B)
    have he : a1 j = -1 := hE j (by omega) (by omega)
    refine po_fi hl hv hw hS (br_t rfl (po_nx6 (fun r rn' => ⟨pk_in j 64 (by omega), ?_⟩))) (fun i hi hf => br_f (po_m1 (by omega)) (po_wst_q (by omega) hi hk (nm_r (nI_1 j) ?_)))
    · rw [nI_clamp (show j < 2 ^ 31 by omega)]
      refine nm_e (nm_r (nI_1 j) (ih (j + 1) k rn' a1 (upd a2 j r) a3 a4 a5 a6 a7 a8 a9 a10 a11 a12 a13 a14 a15 a16 (by omega) (by omega) (by omega) (po_frame (by omega) hS (fun i i1 i2 i3 => ⟨rfl, pk_un (fun q => i3 (by rw [q]; exact he))⟩)) (fun i i1 i2 => hE i i1 (by omega)) hL H))
    · refine ih (j + 1) (k - 1) rn (upd a1 j (a5 i)) (upd a2 j (a6 i ^^^ po_pd ky a4 j)) (upd a3 j (a7 i)) a4 (upd a5 i (a5 (k - 1))) (upd a6 i (a6 (k - 1))) (upd a7 i (a7 (k - 1))) a8 a9 a10 a11 a12 a13 a14 a15 a16 (by omega) (by omega) (by omega) (po_settle (by omega) hS (by omega) (by omega) he hi (fun b hb1 hb2 => ⟨lv, hv, ?_⟩)) (fun q q1 q2 => ?_) (fun lw q q1 q2 => ?_) H
      · rw [hf (lf b) (hw b hb1) hb2]
        omega
      · rw [pk_un (by omega)]
        exact hE q q1 (by omega)
      · have hm := po_bk_mono l hl lw (by omega) lv hv q1
        rw [pk_un (by omega)]
        exact hL lw q q1 q2
theorem po_wp2_q {post : St2 → Prop} {m ky tn : Int32} {l : Nat} (hl : l < 8) {lf : Nat → Nat} {V : Nat → Int32} (hw : ∀ w, w < 16 → lf w < 8) :
    ∀ (d k : Nat) (rn : Int32) (a1 a2 a3 a4 a5 a6 a7 a8 a9 a10 a11 a12 a13 a14 a15 a16 : Nat → Int32), d ≤ 4 → po_SK ky a4 a1 a2 a3 a5 a6 a7 k lf V → (∀ lw i, lw < d → i / 4 = po_bk l lw → a1 i = -1) →
    (∀ (k' : Nat) (rn' : Int32) (a1' a2' a3' a4' a5' a6' a7' : Nat → Int32), po_SK ky a4' a1' a2' a3' a5' a6' a7' k' lf V → post ((nI k'), m, rn', ky, tn, a1', a2', a3', a4', a5', a6', a7', a8, a9, a10, a11, a12, a13, a14, a15, a16)) →
    wX_writePath_2_2 post (nI l) (d + 1) (po_lv d) (nI k) m rn ky tn a1 a2 a3 a4 a5 a6 a7 a8 a9 a10 a11 a12 a13 a14 a15 a16 := by
  intro d
  induction d with
  | zero =>
    intro k rn a1 a2 a3 a4 a5 a6 a7 a8 a9 a10 a11 a12 a13 a14 a15 a16 h1 hS hE H
    exact br_t (show (-1 : Int32) < 0 by decide) (H k rn a1 a2 a3 a4 a5 a6 a7 hS)
  | succ d ih =>
    intro k rn a1 a2 a3 a4 a5 a6 a7 a8 a9 a10 a11 a12 a13 a14 a15 a16 h1 hS hE H
    have hb := po_bk_lt l hl d (by omega)
    show wX_writePath_2_2 post (nI l) (d + 1 + 1) (nI d) (nI k) m rn ky tn a1 a2 a3 a4 a5 a6 a7 a8 a9 a10 a11 a12 a13 a14 a15 a16
    refine br_f (nI_pos (show d < 2 ^ 31 by omega)) (po_kbk hl (by omega) ⟨pk_in (po_bk l d) 16 hb.2, pk_in (po_bk l d) 16 hb.2, ?_⟩)
    rw [nI_clamp (show po_bk l d < 2 ^ 31 by omega)]
    refine nm_e (nm_r (po_4m _) ⟨5, ?_⟩)
    refine po_wp27_q hl (by omega) rfl hw 5 (4 * po_bk l d) k rn a1 a2 a3 (upd a4 (po_bk l d) (a4 (po_bk l d) + 1)) a5 a6 a7 a8 a9 a10 a11 a12 a13 a14 a15 a16 (by omega) (by omega) (by omega) (po_frame (by omega) hS (fun i i1 i2 i3 => ⟨po_pd_up (fun q => i3 (hE d i (by omega) q)), rfl⟩)) (fun i i1 i2 => hE d i (by omega) i1) (fun lw i q1 q2 => hE lw i (by omega) q2) (fun k' rn' a1' a2' a3' a5' a6' a7' g1 g2 => ?_)
    rw [po_lv1]
    exact ih k' rn' a1' a2' a3' (upd a4 (po_bk l d) (a4 (po_bk l d) + 1)) a5' a6' a7' a8 a9 a10 a11 a12 a13 a14 a15 a16 (by omega) g1 g2 H
theorem po_wp_q {post : St2 → Prop} {m rn ky tn : Int32} {a1 a2 a3 a4 a5 a6 a7 a8 a9 a10 a11 a12 a13 a14 a15 a16 : Nat → Int32} {l k : Nat} (hl : l < 8) {lf : Nat → Nat} {V : Nat → Int32} (hw : ∀ w, w < 16 → lf w < 8) (hS : po_SK ky a4 a1 a2 a3 a5 a6 a7 k lf V) (hE : ∀ i, po_on l i → a1 i = -1)
    (H : ∀ (k' : Nat) (rn' : Int32) (a1' a2' a3' a4' a5' a6' a7' : Nat → Int32), po_SK ky a4' a1' a2' a3' a5' a6' a7' k' lf V → post ((nI k'), m, rn', ky, tn, a1', a2', a3', a4', a5', a6', a7', a8, a9, a10, a11, a12, a13, a14, a15, a16)) :
    wpX_writePath_2 post ((nI k), m, rn, ky, tn, a1, a2, a3, a4, a5, a6, a7, a8, a9, a10, a11, a12, a13, a14, a15, a16) (nI l) :=
  ⟨5, po_wp2_q hl hw 4 k rn a1 a2 a3 a4 a5 a6 a7 a8 a9 a10 a11 a12 a13 a14 a15 a16 (by omega) hS (fun lw i h1 h2 => hE i ⟨lw, h1, h2⟩) H⟩
theorem po_ac_hi_q {post : Int32 → St2 → Prop} {x2 x3 x4 x6 m rn ky tn : Int32} {b l k : Nat} {a1 a2 a3 a4 a5 a6 a7 a8 a9 a10 a11 a12 a13 a14 a15 a16 : Nat → Int32} (hl : l < 8) {lf : Nat → Nat} {V : Nat → Int32} (hw : ∀ w, w < 16 → lf w < 8) (hS : po_SK ky a4 a1 a2 a3 a5 a6 a7 k lf V) (hE : ∀ i, po_on l i → a1 i = -1)
    (H : ∀ (k' : Nat) (rn' : Int32) (a1' a2' a3' a4' a5' a6' a7' : Nat → Int32), po_SK ky a4' a1' a2' a3' a5' a6' a7' k' lf V → post x6 ((nI k'), m, rn', ky, tn, a1', a2', a3', a4', a5', a6', a7', a8, a9, a10, a11, a12, a13, a14, a15, a16)) :
    ∀ (n i : Nat), i ≤ k → k - i < n → (∀ q, i ≤ q → q < k → a5 q ≠ nI b) → wX_access_2_35 post (nI b) x2 x3 x4 (nI l) (nI k) m rn ky tn n x6 (nI i) a1 a2 a3 a4 a5 a6 a7 a8 a9 a10 a11 a12 a13 a14 a15 a16 := by
  have hk := po_le hS
  intro n
  induction n with
  | zero => intro i h1 h2; omega
  | succ n ih =>
    intro i h1 h2 hq
    refine pk_le k i (fun z => po_wp_q hl hw hS hE H) (fun z => ⟨pk_in i 16 (by omega), ?_⟩)
    rw [nI_clamp (show i < 2 ^ 31 by omega)]
    exact br_f (hq i (by omega) z) (nm_r (nI_1 i) (ih (i + 1) (by omega) (by omega) (fun q h1 h2 => hq q (by omega) h2)))
theorem po_acl_q {post : Int32 → St2 → Prop} {x2 x3 m rn ky tn nv : Int32} {b l k i0 t : Nat} {a1 a2 a3 a4 a5 a6 a7 a8 a9 a10 a11 a12 a13 a14 a15 a16 : Nat → Int32} {lf : Nat → Nat} {V : Nat → Int32} (hl : l < 8) (hb : b < 16) (ht : t < 8) (hw : ∀ w, w < 16 → lf w < 8) (hS : po_SK ky a4 a1 a2 a3 a5 a6 a7 k lf V) (hE : ∀ i, po_on l i → a1 i = -1)
    (h0 : i0 < k) (ho : a5 i0 = nI b) (hv : a6 i0 = V b) (hu : ∀ q, q < k → q ≠ i0 → a5 q ≠ nI b)
    (hn : (x2 = 0 ∧ nv = V b) ∨ (¬ x2 = 0 ∧ nv = x3))
    (H : ∀ (k' : Nat) (rn' : Int32) (a1' a2' a3' a4' a5' a6' a7' : Nat → Int32), po_SK ky a4' a1' a2' a3' a5' a6' a7' k' (po_ul lf b t) (upd V b nv) → post (V b) ((nI k'), m, rn', ky, tn, a1', a2', a3', a4', a5', a6', a7', a8, a9, a10, a11, a12, a13, a14, a15, a16)) :
    ∀ (n i : Nat) (x6 : Int32), i ≤ i0 → k - i < n → wX_access_2_35 post (nI b) x2 x3 (nI t) (nI l) (nI k) m rn ky tn n x6 (nI i) a1 a2 a3 a4 a5 a6 a7 a8 a9 a10 a11 a12 a13 a14 a15 a16 := by
  have hk := po_le hS
  have hc : po_SK ky a4 a1 a2 a3 a5 (upd a6 i0 nv) (upd a7 i0 (nI t)) k (po_ul lf b t) (upd V b nv) := po_change (by omega) hS hb h0 ho
  intro n
  induction n with
  | zero => intro i x6 h1 h2; omega
  | succ n ih =>
    intro i x6 h1 h2
    refine pk_le k i (fun z => absurd z (by omega)) (fun z => ⟨pk_in i 16 (by omega), ?_⟩)
    rw [nI_clamp (show i < 2 ^ 31 by omega)]
    by_cases e : i = i0
    · rw [e]
      refine br_t ho ⟨pk_in i0 16 (by omega), nm_r hv ?_⟩
      rcases hn with ⟨e1, e2⟩ | ⟨e1, e2⟩
      · refine br_t e1 (And.intro (pk_in i0 16 (by omega)) (nm_r (e' := upd a6 i0 nv) ?_ (And.intro (pk_in i0 16 (by omega)) (nm_r (e' := upd a7 i0 (nI t)) ?_ (nm_r (nI_1 i0) ?_)))))
        · rw [nI_clamp (show i0 < 2 ^ 31 by omega), e2]
        · rw [nI_clamp (show i0 < 2 ^ 31 by omega)]
        · exact po_ac_hi_q hl (po_ulk hw ht) hc hE H n (i0 + 1) (by omega) (by omega) (fun q q1 q2 => hu q q2 (by omega))
      · refine br_f e1 (And.intro (pk_in i0 16 (by omega)) (nm_r (e' := upd a6 i0 nv) ?_ (And.intro (pk_in i0 16 (by omega)) (nm_r (e' := upd a7 i0 (nI t)) ?_ (nm_r (nI_1 i0) ?_)))))
        · rw [nI_clamp (show i0 < 2 ^ 31 by omega), e2]
        · rw [nI_clamp (show i0 < 2 ^ 31 by omega)]
        · exact po_ac_hi_q hl (po_ulk hw ht) hc hE H n (i0 + 1) (by omega) (by omega) (fun q q1 q2 => hu q q2 (by omega))
    · exact br_f (hu i (by omega) e) (nm_r (nI_1 i) (ih (i + 1) x6 (by omega) (by omega)))
theorem po_access_q {post : Int32 → St2 → Prop} {s m rn ky tn : Int32} {a1 a2 a3 a4 a5 a6 a7 a8 a9 a10 a11 a12 a13 a14 a15 a16 : Nat → Int32} {b : Nat} {ch v nv : Int32} {V : Nat → Int32} (hb : b < 16) (hI : po_I s m ky a1 a2 a3 a4 a5 a6 a7 a8 a9 a10 a11 a12 a13 a14 V) (hn : (ch = 0 ∧ nv = V b) ∨ (¬ ch = 0 ∧ nv = v))
    (H : ∀ (s' m' rn' : Int32) (a1' a2' a3' a4' a5' a6' a7' a8' a9' a10' a11' a12' a13' a14' : Nat → Int32), po_I s' m' ky a1' a2' a3' a4' a5' a6' a7' a8' a9' a10' a11' a12' a13' a14' (upd V b nv) → post (V b) (s', m', rn', ky, 4, a1', a2', a3', a4', a5', a6', a7', a8', a9', a10', a11', a12', a13', a14', a15, a16)) : wpX_access_2 post (s, m, rn, ky, tn, a1, a2, a3, a4, a5, a6, a7, a8, a9, a10, a11, a12, a13, a14, a15, a16) (nI b) ch v := by
  obtain ⟨lf, ⟨k, hs, hS, hlf⟩, hP⟩ := hI
  rw [hs]
  unfold wpX_access_2
  refine po_nx4 (fun r rn1 => ?_)
  obtain ⟨t, ht, et⟩ := po_and7 r
  refine nm_r et (po_leafOf_q hb hP (Or.inr ⟨t, ht, rfl, rfl⟩) (fun m' rn2 a8' a9' a10' a11' a12' a13' a14' hP' => ?_))
  refine po_rp_q (hlf b hb) hS (fun k1 a1' a5' a6' a7' g1 g2 => ?_)
  obtain ⟨i0, h0, ho, hv, hu⟩ := po_find (by omega) g1 hb g2
  refine ⟨k1 + 1, po_acl_q (hlf b hb) hb ht hlf g1 g2 h0 ho hv hu hn (fun k' rn' b1 b2 b3 b4 b5 b6 b7 g => ?_) (k1 + 1) 0 0 (by omega) (by omega)⟩
  rw [show (0 : Int32) + 4 = 4 by decide]
  exact H _ _ _ _ _ _ _ _ _ _ _ _ _ _ _ _ _ ⟨po_ul lf b t, ⟨k', rfl, g, po_ulk hlf ht⟩, hP'⟩
end
section
/-! placesOf and audit -/
def po_c (p j : Nat) : Int32 := if p < j then 1 else 0
theorem po_c0 {p j : Nat} (h : j ≤ p) : po_c p j = 0 := if_neg (by omega)
theorem po_c1 {p j : Nat} (h : p < j) : po_c p j = 1 := if_pos h
theorem po_cs {p j : Nat} (h : j ≠ p) : po_c p (j + 1) = po_c p j := by
  by_cases e : p < j
  · rw [po_c1 e, po_c1 (by omega)]
  · rw [po_c0 (by omega), po_c0 (by omega)]
theorem po_p29 {post : Int32 → Prop} {J5 : Int32 → Int32 → Prop} {x1 x3 : Int32} {l j : Nat} {s m rn ky tn : Int32} {a1 a2 a3 a4 a5 a6 a7 a8 a9 a10 a11 a12 a13 a14 a15 a16 : Nat → Int32} (hl : l < 8) (hj : j < 64) (ht : a3 j = nI l) (H : J5 (x3 + 1) (nI (j + 1))) :
    ∀ (n lv : Nat) (x5 : Int32), lv ≤ 4 → 4 - lv < n → (x5 = 1 ∨ (x5 = 0 ∧ ∃ lw, lv ≤ lw ∧ lw < 4 ∧ j / 4 = po_bk l lw)) → wX_placesOf_29 post J5 x1 (nI l) x3 (nI j) s m rn ky tn a1 a2 a3 a4 a5 a6 a7 a8 a9 a10 a11 a12 a13 a14 a15 a16 n x5 (nI lv) := by
  intro n
  induction n with
  | zero => intro lv x5 h1 h2; omega
  | succ n ih =>
    intro lv x5 h1 h2 hx
    refine pk_le 4 lv (fun z => ?_) (fun z => ?_)
    · have e : x5 = 1 := by
        rcases hx with e | ⟨_, lw, g1, g2, _⟩
        · exact e
        · omega
      rw [e, nI_clamp (show j < 2 ^ 31 by omega)]
      exact br_f (by decide) ⟨pk_in j 64 hj, br_t ht (nm_e (nm_r (nI_1 j) H))⟩
    · rcases hx with e | ⟨e, lw, g1, g2, g3⟩
      · rw [e]
        exact br_f (by decide) (nm_r (nI_1 lv) (ih (lv + 1) 1 (by omega) (by omega) (Or.inl rfl)))
      · rw [e, po_j2 hj]
        have hb := po_bk_lt l hl lv z
        refine br_t rfl (po_kbk hl z (pk_eq (po_bk l lv) (j / 4) (fun q => nm_r (nI_1 lv) (ih (lv + 1) 1 (by omega) (by omega) (Or.inl rfl))) (fun q => nm_r (nI_1 lv) (ih (lv + 1) 0 (by omega) (by omega) (Or.inr ⟨rfl, lw, ?_, g2, g3⟩)))))
        by_cases q' : lw = lv
        · rw [q'] at g3
          exact absurd g3.symm q
        · omega
theorem po_p99 {post : Int32 → Prop} {b l k p : Nat} {m rn ky tn : Int32} {a1 a2 a3 a4 a5 a6 a7 a8 a9 a10 a11 a12 a13 a14 a15 a16 : Nat → Int32} (hk : k ≤ 16) (h2 : ∀ i, i < k → (a5 i = nI b ↔ 64 + i = p)) (h4 : 64 ≤ p → a7 (p - 64) = nI l) (hp : p < 64 + k) (H : post 1) :
    ∀ (n i : Nat), i ≤ k → k - i < n → wX_placesOf_99 post (nI b) (nI l) (nI k) m rn ky tn a1 a2 a3 a4 a5 a6 a7 a8 a9 a10 a11 a12 a13 a14 a15 a16 n (po_c p (64 + i)) (nI i) := by
  intro n
  induction n with
  | zero => intro i g1 g2; omega
  | succ n ih =>
    intro i g1 g2
    refine pk_le k i (fun z => ?_) (fun z => ⟨pk_in i 16 (by omega), ?_⟩)
    · rw [po_c1 (by omega)]
      exact H
    · rw [nI_clamp (show i < 2 ^ 31 by omega)]
      have t := ih (i + 1) (by omega) (by omega)
      refine br_c (fun e => ⟨pk_in i 16 (by omega), br_t ?_ (nm_r (e' := po_c p (64 + (i + 1))) ?_ (nm_r (nI_1 i) t))⟩) (fun e => nm_r (nI_1 i) ?_)
      · have q := (h2 i z).mp e
        rw [← h4 (by omega)]
        congr 1
        omega
      · have q := (h2 i z).mp e
        rw [po_c0 (by omega), po_c1 (by omega)]
        decide
      · have q : 64 + i ≠ p := fun q => e ((h2 i z).mpr q)
        rw [show 64 + (i + 1) = 64 + i + 1 by omega, po_cs q] at t
        exact t
theorem po_p5 {post : Int32 → Prop} {b l k p : Nat} {m rn ky tn : Int32} {a1 a2 a3 a4 a5 a6 a7 a8 a9 a10 a11 a12 a13 a14 a15 a16 : Nat → Int32} (hl : l < 8) (hk : k ≤ 16) (h1 : ∀ j, 4 ≤ j → j < 64 → (a1 j = nI b ↔ j = p)) (h2 : ∀ i, i < k → (a5 i = nI b ↔ 64 + i = p)) (h3 : p < 64 → a3 p = nI l ∧ po_on l p) (h4 : 64 ≤ p → a7 (p - 64) = nI l) (hp : p < 64 + k) (H : post 1) :
    ∀ (n j : Nat), 4 ≤ j → j ≤ 64 → 64 - j < n → wX_placesOf_5 post (nI b) (nI l) (nI k) m rn ky tn a1 a2 a3 a4 a5 a6 a7 a8 a9 a10 a11 a12 a13 a14 a15 a16 n (po_c p j) (nI j) := by
  intro n
  induction n with
  | zero => intro j g0 g1 g2; omega
  | succ n ih =>
    intro j g0 g1 g2
    refine pk_le 64 j (fun z => ?_) (fun z => ⟨pk_in j 64 (by omega), ?_⟩)
    · have e : j = 64 + 0 := by omega
      rw [e]
      exact ⟨k + 1, po_p99 hk h2 h4 hp H (k + 1) 0 (by omega) (by omega)⟩
    · rw [nI_clamp (show j < 2 ^ 31 by omega)]
      have t := ih (j + 1) (by omega) (by omega) (by omega)
      refine br_c (fun e => ?_) (fun e => nm_r (nI_1 j) ?_)
      · have q := (h1 j g0 z).mp e
        have g := h3 (by omega)
        rw [← q] at g
        obtain ⟨lw, w1, w2⟩ := g.2
        refine ⟨5, po_p29 hl z g.1 ?_ 5 0 0 (by omega) (by omega) (Or.inr ⟨rfl, lw, by omega, w1, w2⟩)⟩
        rw [po_c0 (by omega), show (0 : Int32) + 1 = 1 by decide]
        rw [po_c1 (by omega)] at t
        exact t
      · have q : j ≠ p := fun q => e ((h1 j g0 z).mpr q)
        rw [po_cs q] at t
        exact t
theorem po_places {post : Int32 → Prop} {b : Nat} {s m rn ky tn : Int32} {a1 a2 a3 a4 a5 a6 a7 a8 a9 a10 a11 a12 a13 a14 a15 a16 : Nat → Int32} {lf : Nat → Nat} {V : Nat → Int32} (hb : b < 16) (hM : po_M s ky a1 a2 a3 a4 a5 a6 a7 lf V) (H : post 1) : wpX_placesOf post (s, m, rn, ky, tn, a1, a2, a3, a4, a5, a6, a7, a8, a9, a10, a11, a12, a13, a14, a15, a16) (nI b) (nI (lf b)) := by
  obtain ⟨k, hs, hS, hlf⟩ := hM
  obtain ⟨p, p1, p2, p3, p4, p5, p6⟩ := po_one (by omega) (by omega) hS hb
  rw [hs]
  have t := po_p5 (post := post) (m := m) (rn := rn) (ky := ky) (tn := tn) (a2 := a2) (a4 := a4) (a6 := a6) (a8 := a8) (a9 := a9) (a10 := a10) (a11 := a11) (a12 := a12) (a13 := a13) (a14 := a14) (a15 := a15) (a16 := a16) (hlf b hb) (po_le hS) p3 p4 p5 p6 p2 H 61 4 (by omega) (by omega) (by omega)
  rw [po_c0 p1] at t
  exact ⟨61, t⟩
theorem po_au4 {post : Int32 → St2 → Prop} {s ky tn : Int32} {a1 a2 a3 a4 a5 a6 a7 a15 a16 : Nat → Int32} {lf : Nat → Nat} {V : Nat → Int32} (hM : po_M s ky a1 a2 a3 a4 a5 a6 a7 lf V)
    (H : ∀ (m' rn' : Int32) (a8' a9' a10' a11' a12' a13' a14' : Nat → Int32), po_P m' a8' a9' a10' a11' a12' a13' a14' lf → post 0 (s, m', rn', ky, tn, a1, a2, a3, a4, a5, a6, a7, a8', a9', a10', a11', a12', a13', a14', a15, a16)) :
    ∀ (n b : Nat) (m rn : Int32) (a8 a9 a10 a11 a12 a13 a14 : Nat → Int32), b ≤ 16 → 16 - b < n → po_P m a8 a9 a10 a11 a12 a13 a14 lf → wX_audit_4 post n 0 (nI b) s m rn ky tn a1 a2 a3 a4 a5 a6 a7 a8 a9 a10 a11 a12 a13 a14 a15 a16 := by
  intro n
  induction n with
  | zero => intro b m rn a8 a9 a10 a11 a12 a13 a14 g1 g2; omega
  | succ n ih =>
    intro b m rn a8 a9 a10 a11 a12 a13 a14 g1 g2 hP
    refine pk_le 16 b (fun z => H m rn a8 a9 a10 a11 a12 a13 a14 hP) (fun z => ?_)
    refine po_leafOf z hP (Or.inl ⟨rfl, rfl⟩) (fun m' rn' a8' a9' a10' a11' a12' a13' a14' hP' => ?_)
    exact po_places z hM (br_t rfl (nm_r (nI_1 b) (ih (b + 1) m' rn' a8' a9' a10' a11' a12' a13' a14' (by omega) (by omega) hP')))
theorem po_audit {post : Int32 → St2 → Prop} {s m rn ky tn : Int32} {a1 a2 a3 a4 a5 a6 a7 a8 a9 a10 a11 a12 a13 a14 a15 a16 : Nat → Int32} {V : Nat → Int32} (hI : po_I s m ky a1 a2 a3 a4 a5 a6 a7 a8 a9 a10 a11 a12 a13 a14 V)
    (H : ∀ (m' rn' : Int32) (a8' a9' a10' a11' a12' a13' a14' : Nat → Int32), po_I s m' ky a1 a2 a3 a4 a5 a6 a7 a8' a9' a10' a11' a12' a13' a14' V → post 0 (s, m', rn', ky, tn, a1, a2, a3, a4, a5, a6, a7, a8', a9', a10', a11', a12', a13', a14', a15, a16)) : wpX_audit post (s, m, rn, ky, tn, a1, a2, a3, a4, a5, a6, a7, a8, a9, a10, a11, a12, a13, a14, a15, a16) := by
  obtain ⟨lf, hM, hP⟩ := hI
  exact ⟨17, po_au4 hM (fun m' rn' a8' a9' a10' a11' a12' a13' a14' g => H _ _ _ _ _ _ _ _ _ ⟨lf, hM, g⟩) 17 0 m rn a8 a9 a10 a11 a12 a13 a14 (by omega) (by omega) hP⟩
end
section
/-! the public methods -/
theorem po_isb {post : Int32 → Prop} {b : Nat} (hb : b < 16) (H : post 1) : wpX_isBlock post () (nI b) :=
  br_f (nI_pos (by omega)) (br_f (nI_ge (b := 16) hb (by decide)) H)
theorem po_10 : ¬ (1 : Int32) = 0 := by decide
theorem po_stir {post : St2 → Prop} {s m rn ky tn : Int32} {a1 a2 a3 a4 a5 a6 a7 a8 a9 a10 a11 a12 a13 a14 a15 a16 : Nat → Int32} {v : Int32} (H : ∀ rn', post (s, m, rn', ky, tn, a1, a2, a3, a4, a5, a6, a7, a8, a9, a10, a11, a12, a13, a14, a15, a16)) : wpX_stir post (s, m, rn, ky, tn, a1, a2, a3, a4, a5, a6, a7, a8, a9, a10, a11, a12, a13, a14, a15, a16) v :=
  br_c (fun _ => H _) (fun _ => H _)
theorem po_read {post : Int32 → St2 → Prop} {s m rn ky tn : Int32} {a1 a2 a3 a4 a5 a6 a7 a8 a9 a10 a11 a12 a13 a14 a15 a16 : Nat → Int32} {b : Nat} {V : Nat → Int32} (hb : b < 16) (hI : po_I s m ky a1 a2 a3 a4 a5 a6 a7 a8 a9 a10 a11 a12 a13 a14 V) (H : ∀ (s' m' rn' : Int32) (a1' a2' a3' a4' a5' a6' a7' a8' a9' a10' a11' a12' a13' a14' : Nat → Int32), po_I s' m' ky a1' a2' a3' a4' a5' a6' a7' a8' a9' a10' a11' a12' a13' a14' V → post (V b) (s', m', rn', ky, 4, a1', a2', a3', a4', a5', a6', a7', a8', a9', a10', a11', a12', a13', a14', a15, a16)) : wpX_read post (s, m, rn, ky, tn, a1, a2, a3, a4, a5, a6, a7, a8, a9, a10, a11, a12, a13, a14, a15, a16) (nI b) := by
  unfold wpX_read
  refine po_isb hb (br_f po_10 (po_access hb hI (Or.inl ⟨rfl, rfl⟩) (fun s' m' rn' a1' a2' a3' a4' a5' a6' a7' a8' a9' a10' a11' a12' a13' a14' g => ?_)))
  rw [po_upself] at g
  exact H s' m' rn' a1' a2' a3' a4' a5' a6' a7' a8' a9' a10' a11' a12' a13' a14' g
theorem po_write {post : Int32 → St2 → Prop} {s m rn ky tn : Int32} {a1 a2 a3 a4 a5 a6 a7 a8 a9 a10 a11 a12 a13 a14 a15 a16 : Nat → Int32} {b : Nat} {v : Int32} {V : Nat → Int32} (hb : b < 16) (hI : po_I s m ky a1 a2 a3 a4 a5 a6 a7 a8 a9 a10 a11 a12 a13 a14 V) (H : ∀ (s' m' rn' : Int32) (a1' a2' a3' a4' a5' a6' a7' a8' a9' a10' a11' a12' a13' a14' : Nat → Int32), po_I s' m' ky a1' a2' a3' a4' a5' a6' a7' a8' a9' a10' a11' a12' a13' a14' (upd V b v) → post 0 (s', m', rn', ky, 4, a1', a2', a3', a4', a5', a6', a7', a8', a9', a10', a11', a12', a13', a14', a15, a16)) : wpX_write post (s, m, rn, ky, tn, a1, a2, a3, a4, a5, a6, a7, a8, a9, a10, a11, a12, a13, a14, a15, a16) (nI b) v := by
  unfold wpX_write
  exact po_isb hb (br_f po_10 (po_access hb hI (Or.inr ⟨po_10, rfl⟩) (fun s' m' rn' a1' a2' a3' a4' a5' a6' a7' a8' a9' a10' a11' a12' a13' a14' g => H s' m' rn' a1' a2' a3' a4' a5' a6' a7' a8' a9' a10' a11' a12' a13' a14' g)))
theorem po_add {post : Int32 → St2 → Prop} {s m rn ky tn : Int32} {a1 a2 a3 a4 a5 a6 a7 a8 a9 a10 a11 a12 a13 a14 a15 a16 : Nat → Int32} {b : Nat} {v : Int32} {V : Nat → Int32} (hb : b < 16) (hI : po_I s m ky a1 a2 a3 a4 a5 a6 a7 a8 a9 a10 a11 a12 a13 a14 V) (H : ∀ (s' m' rn' : Int32) (a1' a2' a3' a4' a5' a6' a7' a8' a9' a10' a11' a12' a13' a14' : Nat → Int32), po_I s' m' ky a1' a2' a3' a4' a5' a6' a7' a8' a9' a10' a11' a12' a13' a14' (upd V b (V b + v)) → post (V b + v) (s', m', rn', ky, 4, a1', a2', a3', a4', a5', a6', a7', a8', a9', a10', a11', a12', a13', a14', a15, a16)) : wpX_add post (s, m, rn, ky, tn, a1, a2, a3, a4, a5, a6, a7, a8, a9, a10, a11, a12, a13, a14, a15, a16) (nI b) v := by
  unfold wpX_add
  refine po_isb hb (br_f po_10 (po_access hb hI (Or.inl ⟨rfl, rfl⟩) (fun s1_ m1_ rn1_ a11_ a21_ a31_ a41_ a51_ a61_ a71_ a81_ a91_ a101_ a111_ a121_ a131_ a141_ g => nm_e ?_)))
  rw [po_upself] at g
  exact po_access hb g (Or.inr ⟨po_10, rfl⟩) (fun s' m' rn' a1' a2' a3' a4' a5' a6' a7' a8' a9' a10' a11' a12' a13' a14' g => H s' m' rn' a1' a2' a3' a4' a5' a6' a7' a8' a9' a10' a11' a12' a13' a14' g)
theorem po_exchange {post : Int32 → St2 → Prop} {s m rn ky tn : Int32} {a1 a2 a3 a4 a5 a6 a7 a8 a9 a10 a11 a12 a13 a14 a15 a16 : Nat → Int32} {b c : Nat} {V : Nat → Int32} (hb : b < 16) (hc : c < 16) (hI : po_I s m ky a1 a2 a3 a4 a5 a6 a7 a8 a9 a10 a11 a12 a13 a14 V) (H : ∀ (s' m' rn' : Int32) (a1' a2' a3' a4' a5' a6' a7' a8' a9' a10' a11' a12' a13' a14' : Nat → Int32), po_I s' m' ky a1' a2' a3' a4' a5' a6' a7' a8' a9' a10' a11' a12' a13' a14' (upd (upd V c (V b)) b (V c)) → post 0 (s', m', rn', ky, 4, a1', a2', a3', a4', a5', a6', a7', a8', a9', a10', a11', a12', a13', a14', a15, a16)) : wpX_exchange post (s, m, rn, ky, tn, a1, a2, a3, a4, a5, a6, a7, a8, a9, a10, a11, a12, a13, a14, a15, a16) (nI b) (nI c) := by
  unfold wpX_exchange
  refine po_isb hb (br_f po_10 (po_isb hc (br_f po_10 (po_access hb hI (Or.inl ⟨rfl, rfl⟩) (fun s1_ m1_ rn1_ a11_ a21_ a31_ a41_ a51_ a61_ a71_ a81_ a91_ a101_ a111_ a121_ a131_ a141_ g => ?_)))))
  rw [po_upself] at g
  refine po_access hc g (Or.inr ⟨po_10, rfl⟩) (fun s2_ m2_ rn2_ a12_ a22_ a32_ a42_ a52_ a62_ a72_ a82_ a92_ a102_ a112_ a122_ a132_ a142_ g2 => ?_)
  exact po_access hb g2 (Or.inr ⟨po_10, rfl⟩) (fun s' m' rn' a1' a2' a3' a4' a5' a6' a7' a8' a9' a10' a11' a12' a13' a14' g3 => H s' m' rn' a1' a2' a3' a4' a5' a6' a7' a8' a9' a10' a11' a12' a13' a14' g3)
theorem po_copy {post : Int32 → St2 → Prop} {s m rn ky tn : Int32} {a1 a2 a3 a4 a5 a6 a7 a8 a9 a10 a11 a12 a13 a14 a15 a16 : Nat → Int32} {b c : Nat} {V : Nat → Int32} (hb : b < 16) (hc : c < 16) (hI : po_I s m ky a1 a2 a3 a4 a5 a6 a7 a8 a9 a10 a11 a12 a13 a14 V) (H : ∀ (s' m' rn' : Int32) (a1' a2' a3' a4' a5' a6' a7' a8' a9' a10' a11' a12' a13' a14' : Nat → Int32), po_I s' m' ky a1' a2' a3' a4' a5' a6' a7' a8' a9' a10' a11' a12' a13' a14' (upd V c (V b)) → post 0 (s', m', rn', ky, 4, a1', a2', a3', a4', a5', a6', a7', a8', a9', a10', a11', a12', a13', a14', a15, a16)) : wpX_copy post (s, m, rn, ky, tn, a1, a2, a3, a4, a5, a6, a7, a8, a9, a10, a11, a12, a13, a14, a15, a16) (nI b) (nI c) := by
  unfold wpX_copy
  refine po_isb hb (br_f po_10 (po_isb hc (br_f po_10 (po_access hb hI (Or.inl ⟨rfl, rfl⟩) (fun s1_ m1_ rn1_ a11_ a21_ a31_ a41_ a51_ a61_ a71_ a81_ a91_ a101_ a111_ a121_ a131_ a141_ g => ?_)))))
  rw [po_upself] at g
  exact po_access hc g (Or.inr ⟨po_10, rfl⟩) (fun s' m' rn' a1' a2' a3' a4' a5' a6' a7' a8' a9' a10' a11' a12' a13' a14' g3 => H s' m' rn' a1' a2' a3' a4' a5' a6' a7' a8' a9' a10' a11' a12' a13' a14' g3)
theorem po_fl31 {post : Int32 → St2 → Prop} {ky v st : Int32} {a15 a16 : Nat → Int32} {b c : Nat} (hbc : b + c ≤ 16) {V0 : Nat → Int32}
    (H : ∀ (tn' : Int32) (s' m' rn' : Int32) (a1' a2' a3' a4' a5' a6' a7' a8' a9' a10' a11' a12' a13' a14' : Nat → Int32) (V' : Nat → Int32), po_I s' m' ky a1' a2' a3' a4' a5' a6' a7' a8' a9' a10' a11' a12' a13' a14' V' → (∀ q, V' q = if b ≤ q ∧ q < b + c then v + nI (q - b) * st else V0 q) → post 0 (s', m', rn', ky, tn', a1', a2', a3', a4', a5', a6', a7', a8', a9', a10', a11', a12', a13', a14', a15, a16)) :
    ∀ (n k : Nat) (s m rn tn : Int32) (a1 a2 a3 a4 a5 a6 a7 a8 a9 a10 a11 a12 a13 a14 V : Nat → Int32), k ≤ c → c - k < n → po_I s m ky a1 a2 a3 a4 a5 a6 a7 a8 a9 a10 a11 a12 a13 a14 V → (∀ q, V q = if b ≤ q ∧ q < b + k then v + nI (q - b) * st else V0 q) →
    wX_fill_31 post (nI b) (nI c) v st n (nI k) s m rn ky tn a1 a2 a3 a4 a5 a6 a7 a8 a9 a10 a11 a12 a13 a14 a15 a16 := by
  intro n
  induction n with
  | zero => intro k s m rn tn a1 a2 a3 a4 a5 a6 a7 a8 a9 a10 a11 a12 a13 a14 V h1 h2; omega
  | succ n ih =>
    intro k s m rn tn a1 a2 a3 a4 a5 a6 a7 a8 a9 a10 a11 a12 a13 a14 V h1 h2 hI hV
    refine pk_le c k (fun z => ?_) (fun z => ?_)
    · have e : k = c := by omega
      rw [e] at hV
      exact H tn s m rn a1 a2 a3 a4 a5 a6 a7 a8 a9 a10 a11 a12 a13 a14 V hI hV
    · rw [nI_add]
      refine po_access (show b + k < 16 by omega) hI (Or.inr ⟨po_10, rfl⟩) (fun s' m' rn' a1' a2' a3' a4' a5' a6' a7' a8' a9' a10' a11' a12' a13' a14' g => nm_r (nI_1 k) (ih (k + 1) s' m' rn' 4 a1' a2' a3' a4' a5' a6' a7' a8' a9' a10' a11' a12' a13' a14' _ (by omega) (by omega) g (fun q => ?_)))
      by_cases e : q = b + k
      · rw [e, pk_us, if_pos (by omega), show b + k - b = k by omega]
      · rw [pk_un e, hV q]
        by_cases e2 : b ≤ q ∧ q < b + k
        · rw [if_pos e2, if_pos (by omega)]
        · rw [if_neg e2, if_neg (by omega)]
theorem po_fill {post : Int32 → St2 → Prop} {s m rn ky tn : Int32} {a1 a2 a3 a4 a5 a6 a7 a8 a9 a10 a11 a12 a13 a14 a15 a16 : Nat → Int32} {v st : Int32} {b c : Nat} {V : Nat → Int32} (hb : b < 16) (hc0 : 1 ≤ c) (hc : c ≤ 16) (hI : po_I s m ky a1 a2 a3 a4 a5 a6 a7 a8 a9 a10 a11 a12 a13 a14 V)
    (H : b + c ≤ 16 → ∀ (tn' : Int32) (s' m' rn' : Int32) (a1' a2' a3' a4' a5' a6' a7' a8' a9' a10' a11' a12' a13' a14' : Nat → Int32) (V' : Nat → Int32), po_I s' m' ky a1' a2' a3' a4' a5' a6' a7' a8' a9' a10' a11' a12' a13' a14' V' → (∀ q, V' q = if b ≤ q ∧ q < b + c then v + nI (q - b) * st else V q) → post 0 (s', m', rn', ky, tn', a1', a2', a3', a4', a5', a6', a7', a8', a9', a10', a11', a12', a13', a14', a15, a16)) (H2 : 16 < b + c → post (-2) (s, m, rn, ky, tn, a1, a2, a3, a4, a5, a6, a7, a8, a9, a10, a11, a12, a13, a14, a15, a16)) :
    wpX_fill post (s, m, rn, ky, tn, a1, a2, a3, a4, a5, a6, a7, a8, a9, a10, a11, a12, a13, a14, a15, a16) (nI b) (nI c) v st := by
  unfold wpX_fill
  refine br_f (nI_nlt (b := 1) hc0 (by omega)) (br_t (nI_le (b := 16) hc (by omega)) (br_f (nI_pos (by omega)) ?_))
  have e16 : (16 : Int32) - nI c = nI (16 - c) := pk_sub (a := 16) hc
  rw [e16]
  refine pk_le b (16 - c) (fun z => ⟨c + 1, ?_⟩) (fun z => H2 (by omega))
  refine po_fl31 (by omega) (H (by omega)) (c + 1) 0 s m rn tn a1 a2 a3 a4 a5 a6 a7 a8 a9 a10 a11 a12 a13 a14 V (by omega) (by omega) hI (fun q => ?_)
  rw [if_neg (by omega)]
theorem po_fd11 {post : Int32 → St2 → Prop} {ky x1 : Int32} {a15 a16 V : Nat → Int32} (H : ∀ (r tn' : Int32) (s' m' rn' : Int32) (a1' a2' a3' a4' a5' a6' a7' a8' a9' a10' a11' a12' a13' a14' : Nat → Int32), po_I s' m' ky a1' a2' a3' a4' a5' a6' a7' a8' a9' a10' a11' a12' a13' a14' V → post r (s', m', rn', ky, tn', a1', a2', a3', a4', a5', a6', a7', a8', a9', a10', a11', a12', a13', a14', a15, a16)) :
    ∀ (n k : Nat) (s m rn tn : Int32) (a1 a2 a3 a4 a5 a6 a7 a8 a9 a10 a11 a12 a13 a14 : Nat → Int32), k ≤ 16 → 16 - k < n → po_I s m ky a1 a2 a3 a4 a5 a6 a7 a8 a9 a10 a11 a12 a13 a14 V → wX_find_11 post x1 n (nI k) s m rn ky tn a1 a2 a3 a4 a5 a6 a7 a8 a9 a10 a11 a12 a13 a14 a15 a16 := by
  intro n
  induction n with
  | zero => intro k s m rn tn a1 a2 a3 a4 a5 a6 a7 a8 a9 a10 a11 a12 a13 a14 h1 h2; omega
  | succ n ih =>
    intro k s m rn tn a1 a2 a3 a4 a5 a6 a7 a8 a9 a10 a11 a12 a13 a14 h1 h2 hI
    refine pk_le 16 k (fun z => H _ tn s m rn a1 a2 a3 a4 a5 a6 a7 a8 a9 a10 a11 a12 a13 a14 hI) (fun z => ?_)
    refine po_access z hI (Or.inl ⟨rfl, rfl⟩) (fun s' m' rn' a1' a2' a3' a4' a5' a6' a7' a8' a9' a10' a11' a12' a13' a14' g => ?_)
    rw [po_upself] at g
    exact br_c (fun _ => H _ 4 s' m' rn' a1' a2' a3' a4' a5' a6' a7' a8' a9' a10' a11' a12' a13' a14' g) (fun _ => nm_r (nI_1 k) (ih (k + 1) s' m' rn' 4 a1' a2' a3' a4' a5' a6' a7' a8' a9' a10' a11' a12' a13' a14' (by omega) (by omega) g))
theorem po_findm {post : Int32 → St2 → Prop} {s m rn ky tn : Int32} {a1 a2 a3 a4 a5 a6 a7 a8 a9 a10 a11 a12 a13 a14 a15 a16 : Nat → Int32} {v : Int32} {b : Nat} {V : Nat → Int32} (hb : b < 16) (hI : po_I s m ky a1 a2 a3 a4 a5 a6 a7 a8 a9 a10 a11 a12 a13 a14 V) (H : ∀ (r tn' : Int32) (s' m' rn' : Int32) (a1' a2' a3' a4' a5' a6' a7' a8' a9' a10' a11' a12' a13' a14' : Nat → Int32), po_I s' m' ky a1' a2' a3' a4' a5' a6' a7' a8' a9' a10' a11' a12' a13' a14' V → post r (s', m', rn', ky, tn', a1', a2', a3', a4', a5', a6', a7', a8', a9', a10', a11', a12', a13', a14', a15, a16)) : wpX_find post (s, m, rn, ky, tn, a1, a2, a3, a4, a5, a6, a7, a8, a9, a10, a11, a12, a13, a14, a15, a16) v (nI b) := by
  unfold wpX_find
  exact po_isb hb (br_f po_10 ⟨17, po_fd11 H 17 b s m rn tn a1 a2 a3 a4 a5 a6 a7 a8 a9 a10 a11 a12 a13 a14 (by omega) (by omega) hI⟩)
theorem po_ga2 {post : St2 → Prop} {ky : Int32} {a15 V : Nat → Int32} (H : ∀ (tn' : Int32) (s' m' rn' : Int32) (a1' a2' a3' a4' a5' a6' a7' a8' a9' a10' a11' a12' a13' a14' : Nat → Int32) (a16' : Nat → Int32), po_I s' m' ky a1' a2' a3' a4' a5' a6' a7' a8' a9' a10' a11' a12' a13' a14' V → (∀ q, q < 16 → a16' q = V q) → post (s', m', rn', ky, tn', a1', a2', a3', a4', a5', a6', a7', a8', a9', a10', a11', a12', a13', a14', a15, a16')) :
    ∀ (n k : Nat) (s m rn tn : Int32) (a1 a2 a3 a4 a5 a6 a7 a8 a9 a10 a11 a12 a13 a14 a16 : Nat → Int32), k ≤ 16 → 16 - k < n → po_I s m ky a1 a2 a3 a4 a5 a6 a7 a8 a9 a10 a11 a12 a13 a14 V → (∀ q, q < k → a16 q = V q) → wX_gather_2 post n (nI k) s m rn ky tn a1 a2 a3 a4 a5 a6 a7 a8 a9 a10 a11 a12 a13 a14 a15 a16 := by
  intro n
  induction n with
  | zero => intro k s m rn tn a1 a2 a3 a4 a5 a6 a7 a8 a9 a10 a11 a12 a13 a14 a16 h1 h2; omega
  | succ n ih =>
    intro k s m rn tn a1 a2 a3 a4 a5 a6 a7 a8 a9 a10 a11 a12 a13 a14 a16 h1 h2 hI hV
    refine pk_le 16 k (fun z => H tn s m rn a1 a2 a3 a4 a5 a6 a7 a8 a9 a10 a11 a12 a13 a14 a16 hI (fun q hq => hV q (by omega))) (fun z => ?_)
    refine po_access_q z hI (Or.inl ⟨rfl, rfl⟩) (fun s' m' rn' a1' a2' a3' a4' a5' a6' a7' a8' a9' a10' a11' a12' a13' a14' g => ⟨pk_in k 16 z, ?_⟩)
    rw [po_upself] at g
    rw [nI_clamp (show k < 2 ^ 31 by omega)]
    refine nm_e (nm_r (nI_1 k) (ih (k + 1) s' m' rn' 4 a1' a2' a3' a4' a5' a6' a7' a8' a9' a10' a11' a12' a13' a14' _ (by omega) (by omega) g (fun q hq => ?_)))
    by_cases e : q = k
    · rw [e, pk_us]
    · rw [pk_un e]
      exact hV q (by omega)
theorem po_gather {post : St2 → Prop} {s m rn ky tn : Int32} {a1 a2 a3 a4 a5 a6 a7 a8 a9 a10 a11 a12 a13 a14 a15 a16 : Nat → Int32} {V : Nat → Int32} (hI : po_I s m ky a1 a2 a3 a4 a5 a6 a7 a8 a9 a10 a11 a12 a13 a14 V) (H : ∀ (tn' : Int32) (s' m' rn' : Int32) (a1' a2' a3' a4' a5' a6' a7' a8' a9' a10' a11' a12' a13' a14' : Nat → Int32) (a16' : Nat → Int32), po_I s' m' ky a1' a2' a3' a4' a5' a6' a7' a8' a9' a10' a11' a12' a13' a14' V → (∀ q, q < 16 → a16' q = V q) → post (s', m', rn', ky, tn', a1', a2', a3', a4', a5', a6', a7', a8', a9', a10', a11', a12', a13', a14', a15, a16')) : wpX_gather post (s, m, rn, ky, tn, a1, a2, a3, a4, a5, a6, a7, a8, a9, a10, a11, a12, a13, a14, a15, a16) :=
  ⟨17, po_ga2 H 17 0 s m rn tn a1 a2 a3 a4 a5 a6 a7 a8 a9 a10 a11 a12 a13 a14 a16 (by omega) (by omega) hI (fun q h => absurd h (by omega))⟩
theorem po_ro6 {post : Int32 → St2 → Prop} {ky x1 : Int32} {a15 a16 V0 : Nat → Int32} (h16 : ∀ q, q < 16 → a16 q = V0 q) {f : Nat → Nat} (hf : ∀ q, q < 16 → f q < 16 ∧ (nI q + x1) &&& 15 = nI (f q))
    (H : ∀ (tn' : Int32) (s' m' rn' : Int32) (a1' a2' a3' a4' a5' a6' a7' a8' a9' a10' a11' a12' a13' a14' : Nat → Int32) (V' : Nat → Int32), po_I s' m' ky a1' a2' a3' a4' a5' a6' a7' a8' a9' a10' a11' a12' a13' a14' V' → (∀ q, q < 16 → V' q = V0 (f q)) → post 0 (s', m', rn', ky, tn', a1', a2', a3', a4', a5', a6', a7', a8', a9', a10', a11', a12', a13', a14', a15, a16)) :
    ∀ (n k : Nat) (s m rn tn : Int32) (a1 a2 a3 a4 a5 a6 a7 a8 a9 a10 a11 a12 a13 a14 V : Nat → Int32), k ≤ 16 → 16 - k < n → po_I s m ky a1 a2 a3 a4 a5 a6 a7 a8 a9 a10 a11 a12 a13 a14 V → (∀ q, q < k → V q = V0 (f q)) → wX_rotate_6 post x1 n (nI k) s m rn ky tn a1 a2 a3 a4 a5 a6 a7 a8 a9 a10 a11 a12 a13 a14 a15 a16 := by
  intro n
  induction n with
  | zero => intro k s m rn tn a1 a2 a3 a4 a5 a6 a7 a8 a9 a10 a11 a12 a13 a14 V h1 h2; omega
  | succ n ih =>
    intro k s m rn tn a1 a2 a3 a4 a5 a6 a7 a8 a9 a10 a11 a12 a13 a14 V h1 h2 hI hV
    refine pk_le 16 k (fun z => H tn s m rn a1 a2 a3 a4 a5 a6 a7 a8 a9 a10 a11 a12 a13 a14 V hI (fun q hq => hV q (by omega))) (fun z => ?_)
    have hk := hf k z
    rw [hk.2, nI_clamp (show f k < 2 ^ 31 by omega)]
    refine ⟨pk_in (f k) 16 hk.1, po_access z hI (Or.inr ⟨po_10, rfl⟩) (fun s' m' rn' a1' a2' a3' a4' a5' a6' a7' a8' a9' a10' a11' a12' a13' a14' g => nm_r (nI_1 k) (ih (k + 1) s' m' rn' 4 a1' a2' a3' a4' a5' a6' a7' a8' a9' a10' a11' a12' a13' a14' _ (by omega) (by omega) g (fun q hq => ?_)))⟩
    by_cases e : q = k
    · rw [e, pk_us]
      exact h16 _ hk.1
    · rw [pk_un e]
      exact hV q (by omega)
theorem po_rotate {post : Int32 → St2 → Prop} {s m rn ky tn : Int32} {a1 a2 a3 a4 a5 a6 a7 a8 a9 a10 a11 a12 a13 a14 a15 a16 : Nat → Int32} {v : Int32} {V : Nat → Int32} (hI : po_I s m ky a1 a2 a3 a4 a5 a6 a7 a8 a9 a10 a11 a12 a13 a14 V) {f : Nat → Nat} (hf : ∀ q, q < 16 → f q < 16 ∧ (nI q + v) &&& 15 = nI (f q))
    (H : ∀ (tn' : Int32) (s' m' rn' : Int32) (a1' a2' a3' a4' a5' a6' a7' a8' a9' a10' a11' a12' a13' a14' : Nat → Int32) (V' a16' : Nat → Int32), po_I s' m' ky a1' a2' a3' a4' a5' a6' a7' a8' a9' a10' a11' a12' a13' a14' V' → (∀ q, q < 16 → V' q = V (f q)) → post 0 (s', m', rn', ky, tn', a1', a2', a3', a4', a5', a6', a7', a8', a9', a10', a11', a12', a13', a14', a15, a16')) : wpX_rotate post (s, m, rn, ky, tn, a1, a2, a3, a4, a5, a6, a7, a8, a9, a10, a11, a12, a13, a14, a15, a16) v := by
  unfold wpX_rotate
  refine po_gather hI (fun tn1 s1_ m1_ rn1_ a11_ a21_ a31_ a41_ a51_ a61_ a71_ a81_ a91_ a101_ a111_ a121_ a131_ a141_ b16 g h16 => ⟨17, ?_⟩)
  exact po_ro6 h16 hf (fun tn' s' m' rn' a1' a2' a3' a4' a5' a6' a7' a8' a9' a10' a11' a12' a13' a14' V' g' hV' => H tn' s' m' rn' a1' a2' a3' a4' a5' a6' a7' a8' a9' a10' a11' a12' a13' a14' V' b16 g' hV') 17 0 s1_ m1_ rn1_ tn1 a11_ a21_ a31_ a41_ a51_ a61_ a71_ a81_ a91_ a101_ a111_ a121_ a131_ a141_ V (by omega) (by omega) g (fun q h => absurd h (by omega))
theorem po_ra31 {post : Int32 → St2 → Prop} {J15 : Int32 → (Nat → Int32) → (Nat → Int32) → (Nat → Int32) → (Nat → Int32) → (Nat → Int32) → (Nat → Int32) → (Nat → Int32) → (Nat → Int32) → (Nat → Int32) → (Nat → Int32) → (Nat → Int32) → (Nat → Int32) → (Nat → Int32) → (Nat → Int32) → (Nat → Int32) → (Nat → Int32) →  Prop} {x1 x2 x3 s m rn ky tn : Int32} {a1 a2 a3 a4 a5 a6 a7 a8 a9 a10 a11 a12 a13 a14 a15 : Nat → Int32} (H : ∀ a16', J15 (x2 + 1) a1 a2 a3 a4 a5 a6 a7 a8 a9 a10 a11 a12 a13 a14 a15 a16') :
    ∀ (n i : Nat) (a16 : Nat → Int32), i < 16 → i < n → wX_ranked_31 post J15 x1 x2 x3 s m rn ky tn n (nI i) a1 a2 a3 a4 a5 a6 a7 a8 a9 a10 a11 a12 a13 a14 a15 a16 := by
  intro n
  induction n with
  | zero => intro i a16 h1 h2; omega
  | succ n ih =>
    intro i a16 h1 h2
    refine pk_le i 0 (fun z => ⟨pk_in i 16 h1, nm_e (nm_e (H _))⟩) (fun z => ?_)
    have e1 : nI i - 1 = nI (i - 1) := pk_sub (b := 1) z
    have e2 : nI i + (-1) = nI (i - 1) := by
      have := pk_m1 (i - 1)
      rw [show i - 1 + 1 = i by omega] at this
      exact this
    rw [e1, e2]
    exact ⟨pk_in (i - 1) 16 (by omega), br_c (fun _ => ⟨pk_in i 16 h1, nm_e (nm_e (H _))⟩) (fun _ => ⟨pk_in (i - 1) 16 (by omega), pk_in i 16 h1, nm_e (nm_e (ih (i - 1) _ (by omega) (by omega)))⟩)⟩
theorem po_ra15 {post : Int32 → St2 → Prop} {s m rn ky tn : Int32} {a1 a2 a3 a4 a5 a6 a7 a8 a9 a10 a11 a12 a13 a14 a15 : Nat → Int32} {b : Nat} (hb : b < 16) (H : ∀ r a16', post r (s, m, rn, ky, tn, a1, a2, a3, a4, a5, a6, a7, a8, a9, a10, a11, a12, a13, a14, a15, a16')) :
    ∀ (n i : Nat) (a16 : Nat → Int32), i ≤ 16 → 16 - i < n → wX_ranked_15 post (nI b) s m rn ky tn n (nI i) a1 a2 a3 a4 a5 a6 a7 a8 a9 a10 a11 a12 a13 a14 a15 a16 := by
  intro n
  induction n with
  | zero => intro i a16 h1 h2; omega
  | succ n ih =>
    intro i a16 h1 h2
    refine pk_le 16 i (fun z => ⟨pk_in b 16 hb, H _ _⟩) (fun z => ⟨pk_in i 16 z, nm_e ⟨i + 1, po_ra31 (fun b16 => ?_) (i + 1) i a16 z (by omega)⟩⟩)
    rw [nI_1]
    exact ih (i + 1) b16 (by omega) (by omega)
theorem po_ranked {post : Int32 → St2 → Prop} {s m rn ky tn : Int32} {a1 a2 a3 a4 a5 a6 a7 a8 a9 a10 a11 a12 a13 a14 a15 a16 : Nat → Int32} {b : Nat} {V : Nat → Int32} (hb : b < 16) (hI : po_I s m ky a1 a2 a3 a4 a5 a6 a7 a8 a9 a10 a11 a12 a13 a14 V) (H : ∀ (r tn' : Int32) (s' m' rn' : Int32) (a1' a2' a3' a4' a5' a6' a7' a8' a9' a10' a11' a12' a13' a14' : Nat → Int32) (a16' : Nat → Int32), po_I s' m' ky a1' a2' a3' a4' a5' a6' a7' a8' a9' a10' a11' a12' a13' a14' V → post r (s', m', rn', ky, tn', a1', a2', a3', a4', a5', a6', a7', a8', a9', a10', a11', a12', a13', a14', a15, a16')) : wpX_ranked post (s, m, rn, ky, tn, a1, a2, a3, a4, a5, a6, a7, a8, a9, a10, a11, a12, a13, a14, a15, a16) (nI b) := by
  unfold wpX_ranked
  refine po_isb hb (br_f po_10 (po_gather hI (fun tn' s' m' rn' a1' a2' a3' a4' a5' a6' a7' a8' a9' a10' a11' a12' a13' a14' b16 g h16 => ⟨16, ?_⟩)))
  exact po_ra15 hb (fun r c16 => H r tn' s' m' rn' a1' a2' a3' a4' a5' a6' a7' a8' a9' a10' a11' a12' a13' a14' c16 g) 16 1 b16 (by omega) (by omega)
theorem po_16g (g k : Nat) : (16 : Int32) * nI g + nI k = nI (16 * g + k) := by
  rw [show (16 : Int32) = nI 16 from rfl, pk_mul, nI_add]
theorem po_sa17 {post : Int32 → St2 → Prop} {s m rn ky tn : Int32} {a1 a2 a3 a4 a5 a6 a7 a8 a9 a10 a11 a12 a13 a14 a16 b15 V : Nat → Int32} {g : Nat} (hg : g < 2) (h16 : ∀ q, q < 16 → a16 q = V q)
    (H : ∀ a15', (∀ q, q < 16 → a15' (16 * g + q) = V q) → (∀ q, q < 16 * g ∨ 16 * g + 16 ≤ q → a15' q = b15 q) → post 0 (s, m, rn, ky, tn, a1, a2, a3, a4, a5, a6, a7, a8, a9, a10, a11, a12, a13, a14, a15', a16)) :
    ∀ (n k : Nat) (a15 : Nat → Int32), k ≤ 16 → 16 - k < n → (∀ q, q < k → a15 (16 * g + q) = V q) → (∀ q, q < 16 * g ∨ 16 * g + 16 ≤ q → a15 q = b15 q) → wX_save_17 post (nI g) s m rn ky tn n (nI k) a1 a2 a3 a4 a5 a6 a7 a8 a9 a10 a11 a12 a13 a14 a15 a16 := by
  intro n
  induction n with
  | zero => intro k a15 h1 h2; omega
  | succ n ih =>
    intro k a15 h1 h2 hA hB
    refine pk_le 16 k (fun z => H a15 (fun q hq => hA q (by omega)) hB) (fun z => ⟨pk_in k 16 z, ?_⟩)
    rw [po_16g, nI_clamp (show 16 * g + k < 2 ^ 31 by omega), nI_clamp (show k < 2 ^ 31 by omega)]
    refine ⟨pk_in (16 * g + k) 32 (by omega), nm_e (nm_r (nI_1 k) (ih (k + 1) _ (by omega) (by omega) (fun q hq => ?_) (fun q hq => ?_)))⟩
    · by_cases e : q = k
      · rw [e, pk_us]
        exact h16 k z
      · rw [pk_un (by omega)]
        exact hA q (by omega)
    · rw [pk_un (by omega)]
      exact hB q hq
theorem po_save {post : Int32 → St2 → Prop} {s m rn ky tn : Int32} {a1 a2 a3 a4 a5 a6 a7 a8 a9 a10 a11 a12 a13 a14 a15 a16 : Nat → Int32} {g : Nat} {V : Nat → Int32} (hg : g < 2) (hI : po_I s m ky a1 a2 a3 a4 a5 a6 a7 a8 a9 a10 a11 a12 a13 a14 V)
    (H : ∀ (tn' : Int32) (s' m' rn' : Int32) (a1' a2' a3' a4' a5' a6' a7' a8' a9' a10' a11' a12' a13' a14' : Nat → Int32) (a15' a16' : Nat → Int32), po_I s' m' ky a1' a2' a3' a4' a5' a6' a7' a8' a9' a10' a11' a12' a13' a14' V → (∀ q, q < 16 → a15' (16 * g + q) = V q) → (∀ q, q < 16 * g ∨ 16 * g + 16 ≤ q → a15' q = a15 q) → post 0 (s', m', rn', ky, tn', a1', a2', a3', a4', a5', a6', a7', a8', a9', a10', a11', a12', a13', a14', a15', a16')) : wpX_save post (s, m, rn, ky, tn, a1, a2, a3, a4, a5, a6, a7, a8, a9, a10, a11, a12, a13, a14, a15, a16) (nI g) := by
  have t : wX_save_11 post (nI g) s m rn ky tn a1 a2 a3 a4 a5 a6 a7 a8 a9 a10 a11 a12 a13 a14 a15 a16 := by
    unfold wX_save_11
    refine po_gather hI (fun tn' s' m' rn' a1' a2' a3' a4' a5' a6' a7' a8' a9' a10' a11' a12' a13' a14' b16 gi h16 => ⟨17, ?_⟩)
    exact po_sa17 hg h16 (fun b15 hA hB => H tn' s' m' rn' a1' a2' a3' a4' a5' a6' a7' a8' a9' a10' a11' a12' a13' a14' b15 b16 gi hA hB) 17 0 a15 (by omega) (by omega) (fun q h => absurd h (by omega)) (fun q h => rfl)
  unfold wpX_save
  exact br_c (fun _ => t) (fun _ => br_c (fun _ => t) (fun z => absurd (show nI g = 1 from by
    rcases (show g = 0 ∨ g = 1 by omega) with e | e
    · rename_i z0
      rw [e] at z0
      exact absurd rfl z0
    · rw [e]
      rfl) z))
theorem po_lo15 {post : Int32 → St2 → Prop} {ky : Int32} {a15 a16 : Nat → Int32} {g : Nat} (hg : g < 2)
    (H : ∀ (r tn' : Int32) (s' m' rn' : Int32) (a1' a2' a3' a4' a5' a6' a7' a8' a9' a10' a11' a12' a13' a14' : Nat → Int32) (V' : Nat → Int32), po_I s' m' ky a1' a2' a3' a4' a5' a6' a7' a8' a9' a10' a11' a12' a13' a14' V' → (∀ q, q < 16 → V' q = a15 (16 * g + q)) → post r (s', m', rn', ky, tn', a1', a2', a3', a4', a5', a6', a7', a8', a9', a10', a11', a12', a13', a14', a15, a16)) :
    ∀ (n k : Nat) (x2 s m rn tn : Int32) (a1 a2 a3 a4 a5 a6 a7 a8 a9 a10 a11 a12 a13 a14 V : Nat → Int32), k ≤ 16 → 16 - k < n → po_I s m ky a1 a2 a3 a4 a5 a6 a7 a8 a9 a10 a11 a12 a13 a14 V → (∀ q, q < k → V q = a15 (16 * g + q)) → wX_load_15 post (nI g) n x2 (nI k) s m rn ky tn a1 a2 a3 a4 a5 a6 a7 a8 a9 a10 a11 a12 a13 a14 a15 a16 := by
  intro n
  induction n with
  | zero => intro k x2 s m rn tn a1 a2 a3 a4 a5 a6 a7 a8 a9 a10 a11 a12 a13 a14 V h1 h2; omega
  | succ n ih =>
    intro k x2 s m rn tn a1 a2 a3 a4 a5 a6 a7 a8 a9 a10 a11 a12 a13 a14 V h1 h2 hI hV
    refine pk_le 16 k (fun z => H x2 tn s m rn a1 a2 a3 a4 a5 a6 a7 a8 a9 a10 a11 a12 a13 a14 V hI (fun q hq => hV q (by omega))) (fun z => ?_)
    rw [po_16g, nI_clamp (show 16 * g + k < 2 ^ 31 by omega)]
    refine ⟨pk_in (16 * g + k) 32 (by omega), nm_e (po_access z hI (Or.inr ⟨po_10, rfl⟩) (fun s' m' rn' a1' a2' a3' a4' a5' a6' a7' a8' a9' a10' a11' a12' a13' a14' gi => ?_))⟩
    have hV' : ∀ q, q < k + 1 → upd V k (a15 (16 * g + k)) q = a15 (16 * g + q) := by
      intro q hq
      by_cases e : q = k
      · rw [e, pk_us]
      · rw [pk_un e]
        exact hV q (by omega)
    exact br_c (fun _ => nm_r (nI_1 k) (ih (k + 1) x2 s' m' rn' 4 a1' a2' a3' a4' a5' a6' a7' a8' a9' a10' a11' a12' a13' a14' _ (by omega) (by omega) gi hV')) (fun _ => nm_e (nm_r (nI_1 k) (ih (k + 1) (x2 + 1) s' m' rn' 4 a1' a2' a3' a4' a5' a6' a7' a8' a9' a10' a11' a12' a13' a14' _ (by omega) (by omega) gi hV')))
theorem po_load {post : Int32 → St2 → Prop} {s m rn ky tn : Int32} {a1 a2 a3 a4 a5 a6 a7 a8 a9 a10 a11 a12 a13 a14 a15 a16 : Nat → Int32} {g : Nat} {V : Nat → Int32} (hg : g < 2) (hI : po_I s m ky a1 a2 a3 a4 a5 a6 a7 a8 a9 a10 a11 a12 a13 a14 V)
    (H : ∀ (r tn' : Int32) (s' m' rn' : Int32) (a1' a2' a3' a4' a5' a6' a7' a8' a9' a10' a11' a12' a13' a14' : Nat → Int32) (V' : Nat → Int32), po_I s' m' ky a1' a2' a3' a4' a5' a6' a7' a8' a9' a10' a11' a12' a13' a14' V' → (∀ q, q < 16 → V' q = a15 (16 * g + q)) → post r (s', m', rn', ky, tn', a1', a2', a3', a4', a5', a6', a7', a8', a9', a10', a11', a12', a13', a14', a15, a16)) : wpX_load post (s, m, rn, ky, tn, a1, a2, a3, a4, a5, a6, a7, a8, a9, a10, a11, a12, a13, a14, a15, a16) (nI g) := by
  have t : ∃ fu15 : Nat, wX_load_15 post (nI g) fu15 0 0 s m rn ky tn a1 a2 a3 a4 a5 a6 a7 a8 a9 a10 a11 a12 a13 a14 a15 a16 := ⟨17, po_lo15 hg H 17 0 0 s m rn tn a1 a2 a3 a4 a5 a6 a7 a8 a9 a10 a11 a12 a13 a14 V (by omega) (by omega) hI (fun q h => absurd h (by omega))⟩
  unfold wpX_load
  exact br_c (fun _ => t) (fun _ => br_c (fun _ => t) (fun z => absurd (show nI g = 1 from by
    rcases (show g = 0 ∨ g = 1 by omega) with e | e
    · rename_i z0
      rw [e] at z0
      exact absurd rfl z0
    · rw [e]
      rfl) z))
end
section
/-! the constructor -/
theorem po_S0 {N lo hi : Nat} {on : Nat → Nat → Prop} {pd ow cl tg so sc st : Nat → Int32} {lf : Nat → Nat} {V : Nat → Int32} (h1 : ∀ j, lo ≤ j → j < hi → ow j = -1) (h2 : ∀ b, b < N → so b = nI b ∧ sc b = V b ∧ st b = nI (lf b)) : po_S N lo hi on pd ow cl tg so sc st N lf V := by
  refine ⟨fun b => hi + b, fun b hb => Or.inr ?_, fun j l1 l2 l3 => absurd (h1 j l1 l2) l3, fun i hi' => ⟨i, hi', rfl⟩⟩
  dsimp only
  rw [show hi + b - hi = b by omega]
  exact ⟨by omega, by omega, (h2 b hb).1, (h2 b hb).2.1, (h2 b hb).2.2⟩
theorem po_i143 {post : St2 → Prop} {mc ms kc ks : Nat} {s m rn ky tn : Int32} {a2 a3 a4 a5 a6 a7 a8 a9 a10 a11 a12 a13 a14 a15 a16 : Nat → Int32} (H : ∀ a1' : Nat → Int32, (∀ q, q < 64 → a1' q = -1) → ∃ fu, wX_init_164 post mc ms kc ks s m rn ky tn fu 0 a1' a2 a3 a4 a5 a6 a7 a8 a9 a10 a11 a12 a13 a14 a15 a16) :
    ∀ (n j : Nat) (a1 : Nat → Int32), j ≤ 64 → 64 - j < n → (∀ q, q < j → a1 q = -1) → wX_init_143 post mc ms kc ks s m rn ky tn n (nI j) a1 a2 a3 a4 a5 a6 a7 a8 a9 a10 a11 a12 a13 a14 a15 a16 := by
  intro n
  induction n with
  | zero => intro j a1 h1 h2; omega
  | succ n ih =>
    intro j a1 h1 h2 hA
    refine pk_le 64 j (fun z => H a1 (fun q hq => hA q (by omega))) (fun z => ⟨pk_in j 64 z, ?_⟩)
    rw [nI_clamp (show j < 2 ^ 31 by omega)]
    refine nm_e (nm_r (nI_1 j) (ih (j + 1) _ (by omega) (by omega) (fun q hq => ?_)))
    by_cases e : q = j
    · rw [e, pk_us]
    · rw [pk_un e]
      exact hA q (by omega)
theorem po_i164 {post : St2 → Prop} {mc ms kc ks : Nat} {s m rn ky tn : Int32} {a1 a2 a3 a4 a5 a6 a7 a9 a10 a11 a12 a13 a14 a15 a16 : Nat → Int32} (H : ∀ a8' : Nat → Int32, (∀ q, q < 16 → a8' q = -1) → ∃ fu, wX_init_185 post mc ms kc ks fu 0 s m rn ky tn a1 a2 a3 a4 a5 a6 a7 a8' a9 a10 a11 a12 a13 a14 a15 a16) :
    ∀ (n j : Nat) (a8 : Nat → Int32), j ≤ 16 → 16 - j < n → (∀ q, q < j → a8 q = -1) → wX_init_164 post mc ms kc ks s m rn ky tn n (nI j) a1 a2 a3 a4 a5 a6 a7 a8 a9 a10 a11 a12 a13 a14 a15 a16 := by
  intro n
  induction n with
  | zero => intro j a8 h1 h2; omega
  | succ n ih =>
    intro j a8 h1 h2 hA
    refine pk_le 16 j (fun z => H a8 (fun q hq => hA q (by omega))) (fun z => ⟨pk_in j 16 z, ?_⟩)
    rw [nI_clamp (show j < 2 ^ 31 by omega)]
    refine nm_e (nm_r (nI_1 j) (ih (j + 1) _ (by omega) (by omega) (fun q hq => ?_)))
    by_cases e : q = j
    · rw [e, pk_us]
    · rw [pk_un e]
      exact hA q (by omega)
theorem po_i185 {post : St2 → Prop} {mc ms kc ks : Nat} {s m ky tn : Int32} {a1 a2 a3 a4 a6 a8 a9 a10 a11 a12 a13 a14 a15 : Nat → Int32}
    (H : ∀ (rn' : Int32) (a5' a7' a16' : Nat → Int32) (lf : Nat → Nat), (∀ q, q < 16 → a5' q = nI q ∧ a7' q = nI (lf q) ∧ lf q < 8) → (∀ w r, w < 4 → r < 4 → po_fd r (a16' w) = nI (lf (4 * w + r))) → ∃ fu, wX_init_251 post mc ms kc ks fu 0 16 m rn' ky tn a1 a2 a3 a4 a5' a6 a7' a8 a9 a10 a11 a12 a13 a14 a15 a16') :
    ∀ (n b : Nat) (rn : Int32) (a5 a7 a16 : Nat → Int32) (lf : Nat → Nat), b ≤ 16 → 16 - b < n → (∀ q, q < b → a5 q = nI q ∧ a7 q = nI (lf q) ∧ lf q < 8) → (∀ w r, w < 4 → r < 4 → po_fd r (a16 w) = if 4 * w + r < b then nI (lf (4 * w + r)) else 0) →
    wX_init_185 post mc ms kc ks n (nI b) s m rn ky tn a1 a2 a3 a4 a5 a6 a7 a8 a9 a10 a11 a12 a13 a14 a15 a16 := by
  intro n
  induction n with
  | zero => intro b rn a5 a7 a16 lf h1 h2; omega
  | succ n ih =>
    intro b rn a5 a7 a16 lf h1 h2 hA hF
    refine pk_le 16 b (fun z => H rn a5 a7 a16 lf (fun q hq => hA q (by omega)) (fun w r hw hr => ?_)) (fun z => ?_)
    · rw [hF w r hw hr, if_pos (by omega)]
    · refine po_nx (fun r rn' => ?_)
      obtain ⟨t, ht, et⟩ := po_and7 r
      have hq : b / 4 < 4 := by omega
      have hr4 : b % 4 < 4 := by omega
      refine nm_r et ?_
      rw [(po_b3 b z).1, (po_b3 b z).2, nI_clamp (show b < 2 ^ 31 by omega), nI_clamp (show b / 4 < 2 ^ 31 by omega)]
      refine ⟨pk_in b 16 z, nm_e ⟨pk_in b 16 z, nm_e ⟨pk_in (b / 4) 16 (by omega), pk_in (b / 4) 16 (by omega), nm_e (nm_r (nI_1 b) (ih (b + 1) rn' _ _ _ (po_ul lf b t) (by omega) (by omega) (fun q hq => ?_) (fun w r hw hr => ?_)))⟩⟩⟩
      · by_cases e : q = b
        · rw [e, pk_us, pk_us, po_uls]
          exact ⟨rfl, rfl, ht⟩
        · rw [pk_un e, pk_un e, po_uln e]
          exact hA q (by omega)
      · by_cases e : w = b / 4
        · rw [e, pk_us, po_fd_or, hF _ r hq hr, po_fd_sh r hr _ hr4 t ht]
          by_cases e2 : r = b % 4
          · have eb : 4 * (b / 4) + r = b := by omega
            rw [eb, if_neg (by omega), if_pos e2, if_pos (by omega), po_uls, Int32.zero_or]
          · rw [if_neg e2, Int32.or_zero, po_uln (by omega)]
            by_cases e3 : 4 * (b / 4) + r < b
            · rw [if_pos e3, if_pos (by omega)]
            · rw [if_neg e3, if_neg (by omega)]
        · rw [pk_un e, hF w r hw hr, po_uln (by omega)]
          by_cases e3 : 4 * w + r < b
          · rw [if_pos e3, if_pos (by omega)]
          · rw [if_neg e3, if_neg (by omega)]
theorem po_i251 {post : St2 → Prop} {mc ms kc ks : Nat} {s m ky tn : Int32} {a1 a2 a3 a4 a5 a6 a7 a8 a9 a10 a15 a16 : Nat → Int32}
    (H : ∀ (rn' : Int32) (a11' a12' a13' a14' : Nat → Int32) (wl : Nat → Nat), (∀ q, q < 4 → a11' q = nI q ∧ a12' q = a16 q ∧ a13' q = nI (wl q) ∧ a14' q = nI (wl q) ∧ wl q < 4) → ∃ fu, wX_init_312 post mc ms kc ks fu 0 s 4 rn' ky tn a1 a2 a3 a4 a5 a6 a7 a8 a9 a10 a11' a12' a13' a14' a15 a16) :
    ∀ (n w : Nat) (rn : Int32) (a11 a12 a13 a14 : Nat → Int32) (wl : Nat → Nat), w ≤ 4 → 4 - w < n → (∀ q, q < w → a11 q = nI q ∧ a12 q = a16 q ∧ a13 q = nI (wl q) ∧ a14 q = nI (wl q) ∧ wl q < 4) →
    wX_init_251 post mc ms kc ks n (nI w) s m rn ky tn a1 a2 a3 a4 a5 a6 a7 a8 a9 a10 a11 a12 a13 a14 a15 a16 := by
  intro n
  induction n with
  | zero => intro w rn a11 a12 a13 a14 wl h1 h2; omega
  | succ n ih =>
    intro w rn a11 a12 a13 a14 wl h1 h2 hA
    refine pk_le 4 w (fun z => H rn a11 a12 a13 a14 wl (fun q hq => hA q (by omega))) (fun z => ?_)
    refine po_nx3 (fun r rn' => ?_)
    obtain ⟨t, ht, et⟩ := po_and3 r
    rw [et, nI_clamp (show w < 2 ^ 31 by omega)]
    refine ⟨pk_in w 4 z, nm_e ⟨pk_in w 4 z, nm_e ⟨pk_in w 16 (by omega), pk_in w 4 z, nm_e ⟨pk_in w 4 z, pk_in w 4 z, nm_r (e' := upd a13 w (nI t)) ?_ (nm_r (nI_1 w) (ih (w + 1) rn' _ _ _ _ (po_ul wl w t) (by omega) (by omega) (fun q hq => ?_)))⟩⟩⟩⟩
    · rw [pk_us]
    · by_cases e : q = w
      · rw [e, pk_us, pk_us, pk_us, pk_us, po_uls]
        exact ⟨rfl, rfl, rfl, rfl, ht⟩
      · rw [pk_un e, pk_un e, pk_un e, pk_un e, po_uln e]
        exact hA q (by omega)
theorem po_i312 {post : St2 → Prop} {mc ms kc ks : Nat} {m ky : Int32} {a8 a9 a10 a11 a12 a13 a14 a15 a16 V : Nat → Int32} {lf : Nat → Nat} (hlf : ∀ b, b < 16 → lf b < 8)
    (H : ∀ (k' : Nat) (rn' tn' : Int32) (a1' a2' a3' a4' a5' a6' a7' : Nat → Int32), po_SK ky a4' a1' a2' a3' a5' a6' a7' k' lf V → ∃ fu, wX_init_336 post mc ms kc ks fu 0 (nI k') m rn' ky tn' a1' a2' a3' a4' a5' a6' a7' a8 a9 a10 a11 a12 a13 a14 a15 a16) :
    ∀ (n l k : Nat) (rn tn : Int32) (a1 a2 a3 a4 a5 a6 a7 : Nat → Int32), l ≤ 8 → 8 - l < n → po_SK ky a4 a1 a2 a3 a5 a6 a7 k lf V → wX_init_312 post mc ms kc ks n (nI l) (nI k) m rn ky tn a1 a2 a3 a4 a5 a6 a7 a8 a9 a10 a11 a12 a13 a14 a15 a16 := by
  intro n
  induction n with
  | zero => intro l k rn tn a1 a2 a3 a4 a5 a6 a7 h1 h2; omega
  | succ n ih =>
    intro l k rn tn a1 a2 a3 a4 a5 a6 a7 h1 h2 hS
    refine pk_le 8 l (fun z => H k rn tn a1 a2 a3 a4 a5 a6 a7 hS) (fun z => ?_)
    refine po_rp z hS (fun k1 b1 b5 b6 b7 g1 g2 => ?_)
    refine po_wp z hlf g1 g2 (fun k' rn' a1' a2' a3' a4' a5' a6' a7' g => ?_)
    exact nm_r (nI_1 l) (ih (l + 1) k' rn' _ a1' a2' a3' a4' a5' a6' a7' (by omega) (by omega) g)
theorem po_i336 {post : St2 → Prop} {mc ms kc ks : Nat} {s rn ky tn : Int32} {a1 a2 a3 a4 a5 a6 a7 a14 a15 a16 W : Nat → Int32} {wl : Nat → Nat} (hwl : ∀ b, b < 4 → wl b < 4)
    (H : ∀ (k' : Nat) (a8' a9' a10' a11' a12' a13' : Nat → Int32), po_SM a8' a9' a10' a11' a12' a13' k' wl W → post (s, (nI k'), rn, ky, 0, a1, a2, a3, a4, a5, a6, a7, a8', a9', a10', a11', a12', a13', a14, a15, a16)) :
    ∀ (n l k : Nat) (a8 a9 a10 a11 a12 a13 : Nat → Int32), l ≤ 4 → 4 - l < n → po_SM a8 a9 a10 a11 a12 a13 k wl W → wX_init_336 post mc ms kc ks n (nI l) s (nI k) rn ky tn a1 a2 a3 a4 a5 a6 a7 a8 a9 a10 a11 a12 a13 a14 a15 a16 := by
  intro n
  induction n with
  | zero => intro l k a8 a9 a10 a11 a12 a13 h1 h2; omega
  | succ n ih =>
    intro l k a8 a9 a10 a11 a12 a13 h1 h2 hS
    refine pk_le 4 l (fun z => H k a8 a9 a10 a11 a12 a13 hS) (fun z => ?_)
    refine po_rm z hS (fun k1 b8 b11 b12 b13 g1 g2 => ?_)
    refine po_wm z hwl g1 (fun k' a8' a9' a10' a11' a12' a13' g => ?_)
    exact nm_r (nI_1 l) (ih (l + 1) k' a8' a9' a10' a11' a12' a13' (by omega) (by omega) g)
theorem po_init {post : St2 → Prop} {p0 : Int32}
    (H : ∀ (s m rn ky : Int32) (a1 a2 a3 a4 a5 a6 a7 a8 a9 a10 a11 a12 a13 a14 a16 : Nat → Int32), po_I s m ky a1 a2 a3 a4 a5 a6 a7 a8 a9 a10 a11 a12 a13 a14 (fun _ => 0) → post (s, m, rn, ky, 0, a1, a2, a3, a4, a5, a6, a7, a8, a9, a10, a11, a12, a13, a14, (fun _ => 0), a16)) : wpX_init post 16 368 (0, 0, 0, 0, 0) p0 := by
  unfold wpX_init
  refine ⟨by decide, by decide, by decide, by decide, by decide, by decide, by decide, by decide, by decide, by decide, by decide, by decide, by decide, by decide, by decide, by decide, by decide, by decide, by decide, by decide, by decide, by decide, by decide, by decide, by decide, by decide, by decide, by decide, by decide, by decide, by decide, by decide, ?_⟩
  refine po_stir (fun rn0 => ?_)
  refine po_nx (fun r rn1 => ⟨65, ?_⟩)
  refine po_i143 (fun a1 h1 => ⟨17, ?_⟩) 65 0 _ (by omega) (by omega) (fun q h => absurd h (by omega))
  refine po_i164 (fun a8 h8 => ⟨17, ?_⟩) 17 0 _ (by omega) (by omega) (fun q h => absurd h (by omega))
  refine po_i185 (fun rn2 a5 a7 a16 lf hA hF => ⟨5, ?_⟩) 17 0 rn1 _ _ _ (fun _ => 0) (by omega) (by omega) (fun q h => absurd h (by omega)) (fun w r hw hr => ?_)
  · refine po_i251 (fun rn3 a11 a12 a13 a14 wl hB => ⟨9, ?_⟩) 5 0 rn2 _ _ _ _ (fun _ => 0) (by omega) (by omega) (fun q h => absurd h (by omega))
    refine po_i312 (V := fun _ => 0) (lf := lf) (fun b hb => (hA b hb).2.2) (fun k rn4 tn4 c1 c2 c3 c4 c5 c6 c7 g => ⟨5, ?_⟩) 9 0 16 rn3 0 _ _ _ _ _ _ _ (by omega) (by omega) (po_S0 (fun j l1 l2 => h1 j l2) (fun b hb => ⟨(hA b hb).1, rfl, (hA b hb).2.1⟩))
    refine po_i336 (W := a16) (wl := wl) (fun b hb => (hB b hb).2.2.2.2) (fun k' d8 d9 d10 d11 d12 d13 g' => ?_) 5 0 4 _ _ _ _ _ _ (by omega) (by omega) (po_S0 (fun j l1 l2 => h8 j l2) (fun b hb => ⟨(hB b hb).1, (hB b hb).2.1, (hB b hb).2.2.1⟩))
    exact H _ _ _ _ _ _ _ _ _ _ _ _ _ _ _ _ _ _ _ ⟨lf, ⟨k, rfl, g, fun b hb => (hA b hb).2.2⟩, ⟨k', wl, a16, rfl, g', fun w hw => ⟨(hB w hw).2.2.2.2, (hB w hw).2.2.2.1⟩, hF⟩⟩
  · rw [if_neg (by omega)]
    exact po_fd_0 r
end
section
/-! the law -/
def po_K (J36 : Int32 → Int32 → Int32 → Int32 → Int32 → Int32 → Int32 → Int32 → Int32 → (Nat → Int32) → (Nat → Int32) → (Nat → Int32) → (Nat → Int32) → (Nat → Int32) → (Nat → Int32) → (Nat → Int32) → (Nat → Int32) → (Nat → Int32) → (Nat → Int32) → (Nat → Int32) → (Nat → Int32) → (Nat → Int32) → (Nat → Int32) → (Nat → Int32) → (Nat → Int32) →  Prop) (x k : Nat) : Prop :=
  ∀ (x4 x5 x6 : Int32) (s m rn ky tn : Int32) (a1 a2 a3 a4 a5 a6 a7 a8 a9 a10 a11 a12 a13 a14 a15 a16 : Nat → Int32) (V : Nat → Int32), po_I s m ky a1 a2 a3 a4 a5 a6 a7 a8 a9 a10 a11 a12 a13 a14 V → x4 = V x → x5 = a15 x → x6 = a15 (16 + x) → J36 x4 x5 x6 (nI (k + 3)) s m rn ky tn a1 a2 a3 a4 a5 a6 a7 a8 a9 a10 a11 a12 a13 a14 a15 a16
theorem po_565 {post : Int32 → Prop} {L : Nat} {xs : Nat → Int32} {J36 : Int32 → Int32 → Int32 → Int32 → Int32 → Int32 → Int32 → Int32 → Int32 → (Nat → Int32) → (Nat → Int32) → (Nat → Int32) → (Nat → Int32) → (Nat → Int32) → (Nat → Int32) → (Nat → Int32) → (Nat → Int32) → (Nat → Int32) → (Nat → Int32) → (Nat → Int32) → (Nat → Int32) → (Nat → Int32) → (Nat → Int32) → (Nat → Int32) → (Nat → Int32) →  Prop} {x4 x5 x6 : Int32} {x k kc ks : Nat} {s m rn ky tn : Int32} {a1 a2 a3 a4 a5 a6 a7 a8 a9 a10 a11 a12 a13 a14 a15 a16 : Nat → Int32} {V : Nat → Int32} (hx : x < 16) (K : po_K J36 x k) (hI : po_I s m ky a1 a2 a3 a4 a5 a6 a7 a8 a9 a10 a11 a12 a13 a14 V) (h4 : x4 = V x) (h5 : x5 = a15 x) (h6 : x6 = a15 (16 + x)) :
    wL_law_565 post L xs J36 (nI x) x4 x5 x6 (nI k) kc ks s m rn ky tn a1 a2 a3 a4 a5 a6 a7 a8 a9 a10 a11 a12 a13 a14 a15 a16 := by
  unfold wL_law_565
  refine po_read hx hI (fun s' m' rn' a1' a2' a3' a4' a5' a6' a7' a8' a9' a10' a11' a12' a13' a14' g => br_t h4.symm ?_)
  unfold wpX_touched
  refine br_t rfl ?_
  exact po_audit g (fun m2 rn2 b8 b9 b10 b11 b12 b13 b14 g' => br_t rfl (nm_r (nI_add k 3) (K _ _ _ _ _ _ _ _ _ _ _ _ _ _ _ _ _ _ _ _ _ _ _ _ V g' h4 h5 h6)))
theorem po_193 {post : Int32 → Prop} {L : Nat} {xs : Nat → Int32} {J36 : Int32 → Int32 → Int32 → Int32 → Int32 → Int32 → Int32 → Int32 → Int32 → (Nat → Int32) → (Nat → Int32) → (Nat → Int32) → (Nat → Int32) → (Nat → Int32) → (Nat → Int32) → (Nat → Int32) → (Nat → Int32) → (Nat → Int32) → (Nat → Int32) → (Nat → Int32) → (Nat → Int32) → (Nat → Int32) → (Nat → Int32) → (Nat → Int32) → (Nat → Int32) →  Prop} {x4 x5 x6 : Int32} {x k kc ks b g zz : Nat} {s m rn ky tn : Int32} {a1 a2 a3 a4 a5 a6 a7 a8 a9 a10 a11 a12 a13 a14 a15 a16 : Nat → Int32} {V : Nat → Int32} (hx : x < 16) (hb : b < 16) (hg : g < 16) (K : po_K J36 x k) (hI : po_I s m ky a1 a2 a3 a4 a5 a6 a7 a8 a9 a10 a11 a12 a13 a14 V) (h4 : x4 = V x) (h5 : x5 = a15 x) (h6 : x6 = a15 (16 + x)) (hz : (b = x ∧ zz = g) ∨ (b ≠ x ∧ zz = b)) :
    wL_law_193 post L xs J36 (nI x) x4 x5 x6 (nI k) (nI b) (nI g) (nI zz) kc ks s m rn ky tn a1 a2 a3 a4 a5 a6 a7 a8 a9 a10 a11 a12 a13 a14 a15 a16 := by
  unfold wL_law_193
  refine po_read (by omega) hI (fun s1_ m1_ rn1_ a11_ a21_ a31_ a41_ a51_ a61_ a71_ a81_ a91_ a101_ a111_ a121_ a131_ a141_ g1 => po_exchange hb hg g1 (fun s' m' rn' a1' a2' a3' a4' a5' a6' a7' a8' a9' a10' a11' a12' a13' a14' gi => ?_))
  refine pk_eq b x (fun e => ?_) (fun e => pk_eq g x (fun e2 => ?_) (fun e2 => ?_))
  · unfold wL_law_219
    refine pk_eq b g (fun e3 => ?_) (fun e3 => ?_)
    · unfold wL_law_233 wL_law_235
      refine po_565 hx K gi ?_ h5 h6
      rw [← e, pk_us, h4, ← e3, e]
    · unfold wL_law_233 wL_law_235
      refine po_565 hx K gi ?_ h5 h6
      have ez : zz = g := by omega
      rw [← e, pk_us, ez]
  · unfold wL_law_219
    refine pk_eq b g (fun e3 => absurd e2 (by omega)) (fun e3 => ?_)
    unfold wL_law_233 wL_law_235
    refine po_565 hx K gi ?_ h5 h6
    have ez : zz = b := by omega
    rw [pk_un (Ne.symm e), ← e2, pk_us, ez]
  · unfold wL_law_235
    refine po_565 hx K gi ?_ h5 h6
    rw [pk_un (Ne.symm e), pk_un (Ne.symm e2)]
    exact h4
theorem po_313 {post : Int32 → Prop} {L : Nat} {xs : Nat → Int32} {J36 : Int32 → Int32 → Int32 → Int32 → Int32 → Int32 → Int32 → Int32 → Int32 → (Nat → Int32) → (Nat → Int32) → (Nat → Int32) → (Nat → Int32) → (Nat → Int32) → (Nat → Int32) → (Nat → Int32) → (Nat → Int32) → (Nat → Int32) → (Nat → Int32) → (Nat → Int32) → (Nat → Int32) → (Nat → Int32) → (Nat → Int32) → (Nat → Int32) → (Nat → Int32) →  Prop} {x4 x5 x6 v st z0 : Int32} {x k kc ks b c : Nat} {s m rn ky tn : Int32} {a1 a2 a3 a4 a5 a6 a7 a8 a9 a10 a11 a12 a13 a14 a15 a16 : Nat → Int32} {V : Nat → Int32} (hx : x < 16) (hb : b < 16) (hc0 : 1 ≤ c) (hc : c ≤ 16) (K : po_K J36 x k) (hI : po_I s m ky a1 a2 a3 a4 a5 a6 a7 a8 a9 a10 a11 a12 a13 a14 V) (h4 : x4 = V x) (h5 : x5 = a15 x) (h6 : x6 = a15 (16 + x)) (hz : (z0 = 0 ∧ 16 < b + c) ∨ (z0 = 1 ∧ b + c ≤ 16)) :
    wL_law_313 post L xs J36 (nI x) x4 x5 x6 (nI k) v (nI b) (nI c) st z0 kc ks s m rn ky tn a1 a2 a3 a4 a5 a6 a7 a8 a9 a10 a11 a12 a13 a14 a15 a16 := by
  unfold wL_law_313
  refine po_fill hb hc0 hc hI (fun hbc tn' s' m' rn' a1' a2' a3' a4' a5' a6' a7' a8' a9' a10' a11' a12' a13' a14' V' gi hV' => ?_) (fun hbc => ?_)
  · have ez : z0 = 1 := by
      rcases hz with e | e
      · omega
      · exact e.1
    rw [ez]
    refine br_f po_10 ?_
    unfold wL_law_338
    refine br_t rfl (br_f po_10 ?_)
    refine pk_lt x b (fun e => ?_) (fun e => pk_le (b + c) x (fun e2 => ?_) (fun e2 => nm_e ?_) (nI_add b c))
    · unfold wL_law_375
      refine po_565 hx K gi ?_ h5 h6
      rw [hV' x, if_neg (by omega)]
      exact h4
    · unfold wL_law_375
      refine po_565 hx K gi ?_ h5 h6
      rw [hV' x, if_neg (by omega)]
      exact h4
    · unfold wL_law_375
      refine po_565 hx K gi ?_ h5 h6
      rw [hV' x, if_pos (by omega), pk_sub e, Int32.mul_comm]
  · have ez : z0 = 0 := by
      rcases hz with e | e
      · exact e.1
      · omega
    rw [ez]
    refine br_t rfl ?_
    unfold wL_law_338
    refine br_t rfl (br_t rfl ?_)
    unfold wL_law_375
    exact po_565 hx K hI h4 h5 h6
theorem po_442 {post : Int32 → Prop} {L : Nat} {xs : Nat → Int32} {J36 : Int32 → Int32 → Int32 → Int32 → Int32 → Int32 → Int32 → Int32 → Int32 → (Nat → Int32) → (Nat → Int32) → (Nat → Int32) → (Nat → Int32) → (Nat → Int32) → (Nat → Int32) → (Nat → Int32) → (Nat → Int32) → (Nat → Int32) → (Nat → Int32) → (Nat → Int32) → (Nat → Int32) → (Nat → Int32) → (Nat → Int32) → (Nat → Int32) → (Nat → Int32) →  Prop} {x4 x6 x13 z0 : Int32} {x k kc ks g : Nat} {s m rn ky tn : Int32} {a1 a2 a3 a4 a5 a6 a7 a8 a9 a10 a11 a12 a13 a14 a15 a16 : Nat → Int32} {V : Nat → Int32} (hx : x < 16) (hg : g < 2) (eg : x13 &&& 1 = nI g) (K : po_K J36 x k) (hI : po_I s m ky a1 a2 a3 a4 a5 a6 a7 a8 a9 a10 a11 a12 a13 a14 V) (h4 : x4 = V x) (h5 : z0 = a15 x) (h6 : g = 0 → x6 = a15 (16 + x)) (h7 : g = 1 → x4 = a15 (16 + x)) :
    wL_law_442 post L xs J36 (nI x) x4 x6 (nI k) x13 z0 kc ks s m rn ky tn a1 a2 a3 a4 a5 a6 a7 a8 a9 a10 a11 a12 a13 a14 a15 a16 := by
  unfold wL_law_442
  rw [eg]
  refine pk_eq g 1 (fun e => ?_) (fun e => ?_)
  · unfold wL_law_459
    exact po_565 hx K hI h4 h5 (h7 e)
  · unfold wL_law_459
    exact po_565 hx K hI h4 h5 (h6 (by omega))
theorem po_cell {post : Int32 → Prop} {L q : Nat} {xs : Nat → Int32} {p : Int32} (hL : L < 2 ^ 31) (hq : q < 2 ^ 31) (hp : p = nI q) (H : ∀ r, post r) : wpL_cell post L xs () p :=
  pk_le L q (fun _ => H _) (fun z => ⟨pk_in q L z hp hL, H _⟩) rfl hp hL hq
theorem po_rot (v : Int32) : ∃ f : Nat → Nat, ∀ q, q < 16 → f q < 16 ∧ (nI q + v) &&& 15 = nI (f q) :=
  ⟨fun q => (nI q + v).toBitVec.toNat % 2 ^ 4, fun q _ => ⟨Nat.mod_lt _ (by decide), pk_and _ 4 (by decide)⟩⟩
theorem po_l36 {L : Nat} {xs : Nat → Int32} {x kc ks : Nat} (hL : L ≤ 260) (hx : x < 16) :
    ∀ (n k : Nat) (x4 x5 x6 : Int32) (s m rn ky tn : Int32) (a1 a2 a3 a4 a5 a6 a7 a8 a9 a10 a11 a12 a13 a14 a15 a16 : Nat → Int32) (V : Nat → Int32), k ≤ 263 → L - k < n → po_I s m ky a1 a2 a3 a4 a5 a6 a7 a8 a9 a10 a11 a12 a13 a14 V → x4 = V x → x5 = a15 x → x6 = a15 (16 + x) →
    wL_law_36 (fun r => r = 1) L xs (nI x) kc ks n x4 x5 x6 (nI k) s m rn ky tn a1 a2 a3 a4 a5 a6 a7 a8 a9 a10 a11 a12 a13 a14 a15 a16 := by
  intro n
  induction n with
  | zero => intro k x4 x5 x6 s m rn ky tn a1 a2 a3 a4 a5 a6 a7 a8 a9 a10 a11 a12 a13 a14 a15 a16 V h1 h2; omega
  | succ n ih =>
    intro k x4 x5 x6 s m rn ky tn a1 a2 a3 a4 a5 a6 a7 a8 a9 a10 a11 a12 a13 a14 a15 a16 V h1 h2 hI h4 h5 h6
    refine pk_le L k (fun z => rfl) (fun z => ?_)
    have K : po_K (wL_law_36 (fun r => r = 1) L xs (nI x) kc ks n) x k := fun y4 y5 y6 s_ m_ rn_ ky_ tn_ a1_ a2_ a3_ a4_ a5_ a6_ a7_ a8_ a9_ a10_ a11_ a12_ a13_ a14_ a15_ a16_ V_ hI_ g4 g5 g6 => ih (k + 3) y4 y5 y6 s_ m_ rn_ ky_ tn_ a1_ a2_ a3_ a4_ a5_ a6_ a7_ a8_ a9_ a10_ a11_ a12_ a13_ a14_ a15_ a16_ V_ (by omega) (by omega) hI_ g4 g5 g6
    refine po_cell (by omega) (by omega) rfl (fun r64 => po_cell (q := k + 1) (by omega) (by omega) (nI_add k 1) (fun r65 => po_cell (q := k + 2) (by omega) (by omega) (nI_add k 2) (fun r66 => ?_)))
    obtain ⟨b, hb, eb⟩ := po_and15 (r64 >>> ((4 : Int32) &&& 31))
    obtain ⟨g, hg, eg⟩ := po_and15 r65
    refine nm_e (nm_r eb (nm_r eg ?_))
    refine br_c (fun _ => br_c (fun _ => ?_) (fun _ => br_c (fun _ => ?_) (fun _ => br_c (fun _ => ?_) (fun _ => br_c (fun _ => ?_) (fun _ => br_c (fun _ => ?_) (fun _ => br_c (fun _ => ?_) (fun _ => br_c (fun _ => ?_) (fun _ => br_c (fun _ => br_c (fun _ => ?_) (fun _ => br_c (fun _ => ?_) (fun _ => ?_))) (fun _ => ?_))))))))) (fun _ => ?_)
    · refine po_add hb hI (fun s' m' rn' a1' a2' a3' a4' a5' a6' a7' a8' a9' a10' a11' a12' a13' a14' gi => pk_eq b x (fun e => nm_e ?_) (fun e => ?_))
      · unfold wL_law_155
        refine pk_eq b x (fun _ => br_t ?_ ?_) (fun e' => absurd e e')
        · rw [h4, e]
        · unfold wL_law_170
          refine po_565 hx K gi ?_ h5 h6
          rw [← e, pk_us, h4, e]
      · unfold wL_law_155
        refine pk_eq b x (fun e' => absurd e' e) (fun _ => ?_)
        unfold wL_law_170
        refine po_565 hx K gi ?_ h5 h6
        rw [pk_un (Ne.symm e)]
        exact h4
    · exact pk_eq b x (fun e => po_193 hx hb hg K hI h4 h5 h6 (Or.inl ⟨e, rfl⟩)) (fun e => po_193 hx hb hg K hI h4 h5 h6 (Or.inr ⟨e, rfl⟩))
    · refine po_read hb hI (fun s1_ m1_ rn1_ a11_ a21_ a31_ a41_ a51_ a61_ a71_ a81_ a91_ a101_ a111_ a121_ a131_ a141_ g1 => po_copy hb hg g1 (fun s' m' rn' a1' a2' a3' a4' a5' a6' a7' a8' a9' a10' a11' a12' a13' a14' gi => pk_eq g x (fun e => ?_) (fun e => ?_)))
      · unfold wL_law_271
        refine po_565 hx K gi ?_ h5 h6
        rw [← e, pk_us]
      · unfold wL_law_271
        refine po_565 hx K gi ?_ h5 h6
        rw [pk_un (Ne.symm e)]
        exact h4
    · obtain ⟨c, hc, ec⟩ := po_and15 (r65 >>> ((4 : Int32) &&& 31))
      rw [ec]
      refine nm_r (nI_add 1 c) (nm_e (pk_lt 16 (b + (1 + c)) (fun e => ?_) (fun e => ?_) rfl (nI_add b (1 + c))))
      · exact po_313 hx hb (by omega) (by omega) K hI h4 h5 h6 (Or.inl ⟨rfl, e⟩)
      · exact po_313 hx hb (by omega) (by omega) K hI h4 h5 h6 (Or.inr ⟨rfl, e⟩)
    · obtain ⟨f, hf⟩ := po_rot r66
      rw [(hf x hx).2]
      exact po_read (hf x hx).1 hI (fun s1_ m1_ rn1_ a11_ a21_ a31_ a41_ a51_ a61_ a71_ a81_ a91_ a101_ a111_ a121_ a131_ a141_ g1 => po_rotate g1 hf (fun tn' s' m' rn' a1' a2' a3' a4' a5' a6' a7' a8' a9' a10' a11' a12' a13' a14' V' b16 gi hV' => po_565 hx K gi (hV' x hx).symm h5 h6))
    · obtain ⟨o, ho, eo⟩ := po_and1 (nI g)
      rw [eo]
      refine po_save ho hI (fun tn' s' m' rn' a1' a2' a3' a4' a5' a6' a7' a8' a9' a10' a11' a12' a13' a14' b15 b16 gi hA hB => pk_eq o 0 (fun e => ?_) (fun e => ?_))
      · refine po_442 hx ho eo K gi h4 ?_ (fun _ => ?_) (fun e' => absurd e' (by omega))
        · have t := hA x hx
          rw [e, show 16 * 0 + x = x by omega] at t
          rw [t]
          exact h4
        · rw [hB (16 + x) (by omega)]
          exact h6
      · refine po_442 hx ho eo K gi h4 ?_ (fun e' => absurd e' e) (fun e' => ?_)
        · rw [hB x (by omega)]
          exact h5
        · have t := hA x hx
          rw [e', show 16 * 1 + x = 16 + x by omega] at t
          rw [t]
          exact h4
    · obtain ⟨o, ho, eo⟩ := po_and1 (nI g)
      rw [eo]
      refine po_load ho hI (fun r tn' s' m' rn' a1' a2' a3' a4' a5' a6' a7' a8' a9' a10' a11' a12' a13' a14' V' gi hV' => pk_eq o 0 (fun e => ?_) (fun e => ?_))
      · unfold wL_law_494
        refine po_565 hx K gi ?_ h5 h6
        rw [hV' x hx, e, show 16 * 0 + x = x by omega]
        exact h5
      · unfold wL_law_494
        refine po_565 hx K gi ?_ h5 h6
        rw [hV' x hx, show o = 1 by omega, show 16 * 1 + x = 16 + x by omega]
        exact h6
    · exact po_ranked hb hI (fun r tn' s' m' rn' a1' a2' a3' a4' a5' a6' a7' a8' a9' a10' a11' a12' a13' a14' b16 gi => po_565 hx K gi h4 h5 h6)
    · exact po_findm hb hI (fun r tn' s' m' rn' a1' a2' a3' a4' a5' a6' a7' a8' a9' a10' a11' a12' a13' a14' gi => po_565 hx K gi h4 h5 h6)
    · exact po_read hb hI (fun s' m' rn' a1' a2' a3' a4' a5' a6' a7' a8' a9' a10' a11' a12' a13' a14' gi => po_565 hx K gi h4 h5 h6)
    · exact po_stir (fun rn1 => po_read hb hI (fun s' m' rn' a1' a2' a3' a4' a5' a6' a7' a8' a9' a10' a11' a12' a13' a14' gi => po_565 hx K gi h4 h5 h6))
    · refine po_write hb hI (fun s' m' rn' a1' a2' a3' a4' a5' a6' a7' a8' a9' a10' a11' a12' a13' a14' gi => br_t rfl (pk_eq b x (fun e => ?_) (fun e => ?_)))
      · refine po_565 hx K gi ?_ h5 h6
        rw [e, pk_us]
      · refine po_565 hx K gi ?_ h5 h6
        rw [pk_un (Ne.symm e)]
        exact h4
theorem i_vc (xs : Nat → Int32) (L : Nat) (hL : L ≤ 260) : wpL_law (fun r => r = 1) L xs := by
  unfold wpL_law
  refine po_cell (q := 0) (by omega) (by omega) rfl (fun r1 => po_cell (q := 1) (by omega) (by omega) rfl (fun r2 => ?_))
  obtain ⟨x, hx, ex⟩ := po_and15 r2
  refine nm_r ex ⟨16, 368, by decide, by decide, po_init (fun s m rn ky a1 a2 a3 a4 a5 a6 a7 a8 a9 a10 a11 a12 a13 a14 a16 hI => ⟨L + 1, ?_⟩)⟩
  exact po_l36 hL hx (L + 1) 2 0 0 0 s m rn ky 0 a1 a2 a3 a4 a5 a6 a7 a8 a9 a10 a11 a12 a13 a14 (fun _ => 0) a16 (fun _ => 0) (by omega) (by omega) hI rfl rfl rfl
end
