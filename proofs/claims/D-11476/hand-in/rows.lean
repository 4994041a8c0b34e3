section
/-- k different values among the values of N things: k ≤ N -/
theorem ot_pig : ∀ (N k : Nat) (loc g : Nat → Nat), (∀ i, i < k → ∃ b, b < N ∧ loc b = g i) → (∀ i j, i < k → j < k → g i = g j → i = j) → k ≤ N := by
  intro N
  induction N with
  | zero =>
    intro k loc g h1 h2
    rcases Nat.eq_zero_or_pos k with hk | hk
    · omega
    · obtain ⟨b, hb, _⟩ := h1 0 hk
      omega
  | succ N ih =>
    intro k loc g h1 h2
    by_cases hx : ∃ i, i < k ∧ loc N = g i
    · obtain ⟨i, hi, e⟩ := hx
      have key : k - 1 ≤ N := by
        refine ih (k - 1) loc (fun j => if j = i then g (k - 1) else g j) ?_ ?_
        · intro j hj
          by_cases hji : j = i
          · obtain ⟨b, hb, eb⟩ := h1 (k - 1) (by omega)
            have hbN : b ≠ N := by
              intro hbN
              have := h2 i (k - 1) hi (by omega) (by rw [← e, ← hbN, eb])
              omega
            exact ⟨b, by omega, by rw [if_pos hji]; exact eb⟩
          · obtain ⟨b, hb, eb⟩ := h1 j (by omega)
            have hbN : b ≠ N := by
              intro hbN
              have := h2 i j hi (by omega) (by rw [← e, ← hbN, eb])
              omega
            exact ⟨b, by omega, by rw [if_neg hji]; exact eb⟩
        · intro a c ha hc hac
          by_cases h3 : a = i
          · by_cases h4 : c = i
            · omega
            · rw [if_pos h3, if_neg h4] at hac
              have := h2 _ _ (by omega) (by omega) hac
              omega
          · by_cases h4 : c = i
            · rw [if_neg h3, if_pos h4] at hac
              have := h2 _ _ (by omega) (by omega) hac
              omega
            · rw [if_neg h3, if_neg h4] at hac
              exact h2 _ _ (by omega) (by omega) hac
      omega
    · have key : k ≤ N := by
        refine ih k loc g ?_ h2
        intro i hi
        obtain ⟨b, hb, eb⟩ := h1 i hi
        have hbN : b ≠ N := fun h => hx ⟨i, hi, by rw [← h, eb]⟩
        exact ⟨b, by omega, eb⟩
      omega
theorem ot_n1 {b : Nat} (h : b < 2 ^ 31) : nI b ≠ -1 := by
  intro e
  have h1 := nI_toInt h
  rw [e] at h1
  have h2 : (-1 : Int32).toInt = -1 := by decide
  omega
/-- a store: S slots, N things, thing b at its place loc b (a slot s < S, or S + i for the stash's i-th); m stashed -/
def ot_T (S N : Nat) (onp : Nat → Nat → Prop) (O D T so sc st : Nat → Int32) (m : Nat) (v : Nat → Int32) (p loc : Nat → Nat) : Prop :=
  (∀ b, b < N → (loc b < S ∧ O (loc b) = nI b ∧ D (loc b) = v b ∧ T (loc b) = nI (p b) ∧ onp (loc b) (p b)) ∨ (∃ i, i < m ∧ loc b = S + i ∧ so i = nI b ∧ sc i = v b ∧ st i = nI (p b))) ∧
  (∀ s, s < S → O s ≠ -1 → ∃ b, b < N ∧ loc b = s) ∧
  (∀ i, i < m → ∃ b, b < N ∧ loc b = S + i)
section
variable {S N : Nat} {onp : Nat → Nat → Prop} {O D T so sc st : Nat → Int32} {m : Nat} {v : Nat → Int32} {p loc : Nat → Nat}
theorem ot_slot (h : ot_T S N onp O D T so sc st m v p loc) {s : Nat} (hs : s < S) (hO : O s ≠ -1) : ∃ b, b < N ∧ loc b = s ∧ O s = nI b ∧ D s = v b ∧ T s = nI (p b) ∧ onp s (p b) := by
  obtain ⟨hA, hB, hC⟩ := h
  obtain ⟨b, hb, eb⟩ := hB s hs hO
  rcases hA b hb with ⟨h1, h2, h3, h4, h5⟩ | ⟨i, h1, h2, _⟩
  · rw [eb] at h2 h3 h4 h5
    exact ⟨b, hb, eb, h2, h3, h4, h5⟩
  · omega
theorem ot_stash (h : ot_T S N onp O D T so sc st m v p loc) {i : Nat} (hi : i < m) : ∃ b, b < N ∧ loc b = S + i ∧ so i = nI b ∧ sc i = v b ∧ st i = nI (p b) := by
  obtain ⟨hA, hB, hC⟩ := h
  obtain ⟨b, hb, eb⟩ := hC i hi
  rcases hA b hb with ⟨h1, _⟩ | ⟨j, h1, h2, h3, h4, h5⟩
  · omega
  · have e : j = i := by omega
    rw [e] at h3 h4 h5
    exact ⟨b, hb, eb, h3, h4, h5⟩
theorem ot_m (h : ot_T S N onp O D T so sc st m v p loc) : m ≤ N := by
  refine ot_pig N m loc (fun i => S + i) (fun i hi => h.2.2 i hi) (fun i j _ _ e => ?_)
  omega
theorem ot_room (h : ot_T S N onp O D T so sc st m v p loc) {s : Nat} (hs : s < S) (hO : O s ≠ -1) : m < N := by
  have key : m + 1 ≤ N := by
    refine ot_pig N (m + 1) loc (fun i => if i < m then S + i else s) (fun i hi => ?_) (fun i j hi hj e => ?_)
    · by_cases e : i < m
      · rw [if_pos e]
        exact h.2.2 i e
      · rw [if_neg e]
        exact h.2.1 s hs hO
    · by_cases e1 : i < m
      · by_cases e2 : j < m
        · rw [if_pos e1, if_pos e2] at e
          omega
        · rw [if_pos e1, if_neg e2] at e
          omega
      · by_cases e2 : j < m
        · rw [if_neg e1, if_pos e2] at e
          omega
        · omega
  omega
theorem ot_read (hN : N < 2 ^ 31) (h : ot_T S N onp O D T so sc st m v p loc) {s : Nat} (hs : s < S) (hO : O s ≠ -1) : ∃ loc', ot_T S N onp (upd O s (-1)) D T (upd so m (O s)) (upd sc m (D s)) (upd st m (T s)) (m + 1) v p loc' := by
  obtain ⟨b, hb, eb, h1, h2, h3, h4⟩ := ot_slot h hs hO
  obtain ⟨hA, hB, hC⟩ := h
  have ho : ∀ c, c < N → c ≠ b → loc c ≠ s := by
    intro c hc hcb e
    rcases hA c hc with ⟨g1, g2, _⟩ | ⟨i, g1, g2, _⟩
    · rw [e, h1] at g2
      exact hcb ((nI_eq (by omega) (by omega)).mp g2).symm
    · omega
  refine ⟨fun c => if c = b then S + m else loc c, fun c hc => ?_, fun t ht hOt => ?_, fun i hi => ?_⟩
  · by_cases e : c = b
    · refine Or.inr ⟨m, by omega, if_pos e, ?_, ?_, ?_⟩
      · rw [pk_us, e]; exact h1
      · rw [pk_us, e]; exact h2
      · rw [pk_us, e]; exact h3
    · dsimp only
      rw [if_neg e]
      rcases hA c hc with ⟨g1, g2, g3, g4, g5⟩ | ⟨i, g1, g2, g3, g4, g5⟩
      · exact Or.inl ⟨g1, by rw [pk_un (ho c hc e)]; exact g2, g3, g4, g5⟩
      · refine Or.inr ⟨i, by omega, g2, ?_, ?_, ?_⟩
        · rw [pk_un (by omega)]; exact g3
        · rw [pk_un (by omega)]; exact g4
        · rw [pk_un (by omega)]; exact g5
  · by_cases e : t = s
    · rw [e, pk_us] at hOt
      exact absurd rfl hOt
    · rw [pk_un e] at hOt
      obtain ⟨c, hc, ec⟩ := hB t ht hOt
      have hcb : c ≠ b := by
        intro h
        rw [h, eb] at ec
        exact e ec.symm
      exact ⟨c, hc, by dsimp only; rw [if_neg hcb]; exact ec⟩
  · by_cases e : i = m
    · exact ⟨b, hb, by dsimp only; rw [if_pos rfl, e]⟩
    · obtain ⟨c, hc, ec⟩ := hC i (by omega)
      have hcb : c ≠ b := by
        intro h
        rw [h, eb] at ec
        omega
      exact ⟨c, hc, by dsimp only; rw [if_neg hcb]; exact ec⟩
theorem ot_settle (hN : N < 2 ^ 31) (h : ot_T S N onp O D T so sc st m v p loc) {s i : Nat} {D' : Nat → Int32} (hs : s < S) (hO : O s = -1) (hi : i < m) (hp : ∀ b, b < N → st i = nI (p b) → onp s (p b)) (hD : D' s = sc i) (hD' : ∀ t, t ≠ s → O t ≠ -1 → D' t = D t) :
    ∃ loc', ot_T S N onp (upd O s (so i)) D' (upd T s (st i)) (upd so i (so (m - 1))) (upd sc i (sc (m - 1))) (upd st i (st (m - 1))) (m - 1) v p loc' := by
  obtain ⟨b, hb, eb, h1, h2, h3⟩ := ot_stash h hi
  obtain ⟨d, hd, ed, k1, k2, k3⟩ := ot_stash h (show m - 1 < m by omega)
  obtain ⟨hA, hB, hC⟩ := h
  have inj : ∀ c e, c < N → e < N → loc c = loc e → c = e := by
    intro c e hc he ee
    rcases hA c hc with ⟨g1, g2, _⟩ | ⟨i, g1, g2, g3, _⟩
    · rcases hA e he with ⟨q1, q2, _⟩ | ⟨j, q1, q2, q3, _⟩
      · rw [ee, q2] at g2
        exact ((nI_eq (by omega) (by omega)).mp g2).symm
      · omega
    · rcases hA e he with ⟨q1, q2, _⟩ | ⟨j, q1, q2, q3, _⟩
      · omega
      · have : i = j := by omega
        rw [this, q3] at g3
        exact ((nI_eq (by omega) (by omega)).mp g3).symm
  have hns : ∀ c, c < N → loc c ≠ s := by
    intro c hc e
    rcases hA c hc with ⟨g1, g2, _⟩ | ⟨i, g1, g2, _⟩
    · rw [e, hO] at g2
      exact ot_n1 (by omega) g2.symm
    · omega
  refine ⟨fun c => if c = b then s else if loc c = S + (m - 1) then S + i else loc c, fun c hc => ?_, fun t ht hOt => ?_, fun j hj => ?_⟩
  · by_cases e : c = b
    · dsimp only
      rw [if_pos e]
      refine Or.inl ⟨hs, ?_, ?_, ?_, ?_⟩
      · rw [pk_us, e]; exact h1
      · rw [e, hD]; exact h2
      · rw [pk_us, e]; exact h3
      · rw [e]; exact hp b hb h3
    · dsimp only
      rw [if_neg e]
      by_cases e2 : loc c = S + (m - 1)
      · rw [if_pos e2]
        have ecd : c = d := inj c d hc hd (by omega)
        have him : i < m - 1 := by
          rcases Nat.lt_or_ge i (m - 1) with z | z
          · exact z
          · exact absurd (inj c b hc hb (by omega)) e
        refine Or.inr ⟨i, him, rfl, ?_, ?_, ?_⟩
        · rw [pk_us, ecd]; exact k1
        · rw [pk_us, ecd]; exact k2
        · rw [pk_us, ecd]; exact k3
      · rw [if_neg e2]
        rcases hA c hc with ⟨g1, g2, g3, g4, g5⟩ | ⟨j, g1, g2, g3, g4, g5⟩
        · refine Or.inl ⟨g1, ?_, ?_, ?_, g5⟩
          · rw [pk_un (hns c hc)]; exact g2
          · rw [hD' _ (hns c hc) (by rw [g2]; exact ot_n1 (by omega))]; exact g3
          · rw [pk_un (hns c hc)]; exact g4
        · have hji : j ≠ i := by
            intro z
            exact e (inj c b hc hb (by omega))
          refine Or.inr ⟨j, by omega, g2, ?_, ?_, ?_⟩
          · rw [pk_un hji]; exact g3
          · rw [pk_un hji]; exact g4
          · rw [pk_un hji]; exact g5
  · by_cases e : t = s
    · exact ⟨b, hb, by dsimp only; rw [if_pos rfl, e]⟩
    · rw [pk_un e] at hOt
      obtain ⟨c, hc, ec⟩ := hB t ht hOt
      have hcb : c ≠ b := by
        intro h
        rw [h, eb] at ec
        omega
      exact ⟨c, hc, by dsimp only; rw [if_neg hcb, if_neg (by omega)]; exact ec⟩
  · by_cases e : j = i
    · have hdb : d ≠ b := by
        intro h
        rw [h, eb] at ed
        omega
      exact ⟨d, hd, by dsimp only; rw [if_neg hdb, if_pos ed, e]⟩
    · obtain ⟨c, hc, ec⟩ := hC j (by omega)
      have hcb : c ≠ b := by
        intro h
        rw [h, eb] at ec
        omega
      exact ⟨c, hc, by dsimp only; rw [if_neg hcb, if_neg (by omega)]; exact ec⟩
theorem ot_D (hN : N < 2 ^ 31) {D' : Nat → Int32} (h : ot_T S N onp O D T so sc st m v p loc) (hD : ∀ s, s < S → O s ≠ -1 → D' s = D s) : ot_T S N onp O D' T so sc st m v p loc := by
  obtain ⟨hA, hB, hC⟩ := h
  refine ⟨fun c hc => ?_, hB, hC⟩
  rcases hA c hc with ⟨g1, g2, g3, g4, g5⟩ | g
  · exact Or.inl ⟨g1, g2, by rw [hD _ g1 (by rw [g2]; exact ot_n1 (by omega))]; exact g3, g4, g5⟩
  · exact Or.inr g
theorem ot_v {v' : Nat → Int32} (h : ot_T S N onp O D T so sc st m v p loc) (hv : ∀ b, b < N → v' b = v b) : ot_T S N onp O D T so sc st m v' p loc := by
  obtain ⟨hA, hB, hC⟩ := h
  refine ⟨fun c hc => ?_, hB, hC⟩
  rcases hA c hc with ⟨g1, g2, g3, g4⟩ | ⟨i, g1, g2, g3, g4, g5⟩
  · exact Or.inl ⟨g1, g2, by rw [hv c hc]; exact g3, g4⟩
  · exact Or.inr ⟨i, g1, g2, g3, by rw [hv c hc]; exact g4, g5⟩
theorem ot_find (hN : N < 2 ^ 31) (h : ot_T S N onp O D T so sc st m v p loc) {b : Nat} (hb : b < N) (hcl : ∀ s, s < S → onp s (p b) → O s = -1) : ∃ i, i < m ∧ so i = nI b ∧ sc i = v b ∧ st i = nI (p b) ∧ ∀ j, j < m → so j = nI b → j = i := by
  have hx : ∃ i, i < m ∧ loc b = S + i ∧ so i = nI b ∧ sc i = v b ∧ st i = nI (p b) := by
    rcases h.1 b hb with ⟨g1, g2, g3, g4, g5⟩ | g
    · rw [hcl _ g1 g5] at g2
      exact absurd g2.symm (ot_n1 (by omega))
    · exact g
  obtain ⟨i, g1, g2, g3, g4, g5⟩ := hx
  refine ⟨i, g1, g3, g4, g5, fun j hj ej => ?_⟩
  obtain ⟨c, hc, ec, k1, _⟩ := ot_stash h hj
  rw [ej] at k1
  have : b = c := (nI_eq (by omega) (by omega)).mp k1
  rw [← this] at ec
  omega
theorem ot_set (hN : N < 2 ^ 31) (h : ot_T S N onp O D T so sc st m v p loc) {b i l : Nat} {x : Int32} (hb : b < N) (hi : i < m) (hso : so i = nI b) : ot_T S N onp O D T so (upd sc i x) (upd st i (nI l)) m (upd v b x) (fun c => if c = b then l else p c) loc := by
  obtain ⟨c0, hc0, ec0, k1, k2, k3⟩ := ot_stash h hi
  rw [hso] at k1
  have hcb : b = c0 := (nI_eq (by omega) (by omega)).mp k1
  rw [← hcb] at ec0
  obtain ⟨hA, hB, hC⟩ := h
  refine ⟨fun c hc => ?_, hB, hC⟩
  by_cases e : c = b
  · refine Or.inr ⟨i, hi, by rw [e]; exact ec0, by rw [e]; exact hso, ?_, ?_⟩
    · rw [pk_us, e, pk_us]
    · rw [pk_us]
      dsimp only
      rw [if_pos e]
  · dsimp only
    rw [pk_un e, if_neg e]
    rcases hA c hc with g | ⟨j, g1, g2, g3, g4, g5⟩
    · exact Or.inl g
    · have hji : j ≠ i := by
        intro z
        rw [z, hso] at g3
        exact e ((nI_eq (by omega) (by omega)).mp g3).symm
      refine Or.inr ⟨j, g1, g2, g3, ?_, ?_⟩
      · rw [pk_un hji]; exact g4
      · rw [pk_un hji]; exact g5
/-- all in the stash, in order -/
theorem ot_init (hO : ∀ s, s < S → O s = -1) (hso : ∀ i, i < N → so i = nI i) (hsc : ∀ i, i < N → sc i = v i) (hst : ∀ i, i < N → st i = nI (p i)) : ot_T S N onp O D T so sc st N v p (fun b => S + b) := by
  refine ⟨fun b hb => Or.inr ⟨b, hb, rfl, hso b hb, hsc b hb, hst b hb⟩, fun s hs h => absurd (hO s hs) h, fun i hi => ⟨i, hi, rfl⟩⟩
end
end
section
/-! Int32 by its bits (turned from the kit's rows to paste), and the packed words of four leaves -/
def ob_t (x : Int32) (i : Nat) : Bool := x.toBitVec.getLsbD i
theorem ob_ext {x y : Int32} (h : ∀ i, i < 32 → ob_t x i = ob_t y i) : x = y := Int32.toBitVec_inj.mp (BitVec.eq_of_getLsbD_eq (fun i hi => h i hi))
theorem ob_or (x y : Int32) (i : Nat) : ob_t (x ||| y) i = (ob_t x i || ob_t y i) := by unfold ob_t; rw [Int32.toBitVec_or, BitVec.getLsbD_or]
theorem ob_and (x y : Int32) (i : Nat) : ob_t (x &&& y) i = (ob_t x i && ob_t y i) := by unfold ob_t; rw [Int32.toBitVec_and, BitVec.getLsbD_and]
theorem ob_xor (x y : Int32) (i : Nat) : ob_t (x ^^^ y) i = (ob_t x i ^^ ob_t y i) := by unfold ob_t; rw [Int32.toBitVec_xor, BitVec.getLsbD_xor]
theorem ob_big {x : Int32} {i : Nat} (h : 32 ≤ i) : ob_t x i = false := BitVec.getLsbD_of_ge _ _ h
theorem ob_7 (i : Nat) : ob_t 7 i = decide (i < 3) := by
  rcases Nat.lt_or_ge i 32 with h | h
  · exact (by decide +kernel : ∀ i, i < 32 → ob_t 7 i = decide (i < 3)) i h
  · rw [ob_big h, decide_eq_false (by omega)]
theorem ob_m1 : ∀ i, i < 32 → ob_t (-1) i = true := by decide +kernel
theorem ob_0 (i : Nat) : ob_t 0 i = false := BitVec.getLsbD_zero
theorem ob_sl : ∀ n, n < 32 → ((nI n &&& 31).toBitVec.smod 32).toNat = n := by decide +kernel
theorem ob_shl (n : Nat) (hn : n < 32) (x : Int32) {i : Nat} (hi : i < 32) : ob_t (x <<< (nI n &&& 31)) i = (decide (n ≤ i) && ob_t x (i - n)) := by
  unfold ob_t
  rw [Int32.toBitVec_shiftLeft]
  show (x.toBitVec <<< ((nI n &&& 31).toBitVec.smod 32).toNat).getLsbD i = _
  rw [ob_sl n hn, BitVec.getLsbD_shiftLeft]
  rcases Nat.lt_or_ge i n with h | h
  · simp [h, Nat.not_le.mpr h]
  · simp [hi, h, Nat.not_lt.mpr h]
theorem ob_sshr (n : Nat) (hn : n < 32) (x : Int32) {i : Nat} (hi : i < 32) : ob_t (x >>> (nI n &&& 31)) i = if n + i < 32 then ob_t x (n + i) else ob_t x 31 := by
  unfold ob_t
  rw [Int32.toBitVec_shiftRight]
  show (x.toBitVec.sshiftRight ((nI n &&& 31).toBitVec.smod 32).toNat).getLsbD i = _
  rw [ob_sl n hn, BitVec.getLsbD_sshiftRight, BitVec.msb_eq_getLsbD_last]
  simp [hi]
/-- the k-th leaf packed in a word -/
def ob_f (w : Int32) (k : Nat) : Int32 := (w >>> (nI (3 * k) &&& 31)) &&& 7
theorem ob_fb (w : Int32) {k : Nat} (hk : k < 4) {i : Nat} (hi : i < 32) : ob_t (ob_f w k) i = (decide (i < 3) && ob_t w (3 * k + i)) := by
  unfold ob_f
  rw [ob_and, ob_sshr (3 * k) (by omega) w hi, ob_7]
  by_cases h : i < 3
  · rw [if_pos (by omega)]
    simp [h]
  · simp [h]
theorem ob_nl {l : Nat} (hl : l < 8) : ∀ i, 3 ≤ i → ob_t (nI l) i = false := by
  intro i hi
  have e : nI l &&& 7 = nI l := by
    rw [pk_andN (by omega) 3 (by decide)]
    rw [Nat.mod_eq_of_lt (by omega)]
  rw [← e, ob_and, ob_7, decide_eq_false (by omega), Bool.and_false]
theorem ob_set (w : Int32) {nl : Int32} (hnl : ∀ i, 3 ≤ i → ob_t nl i = false) {k j : Nat} (hk : k < 4) (hj : j < 4) :
    ob_f ((w &&& (((7 : Int32) <<< (nI (3 * k) &&& 31)) ^^^ (-1))) ||| (nl <<< (nI (3 * k) &&& 31))) j = if j = k then nl else ob_f w j := by
  apply ob_ext
  intro i hi
  rw [ob_fb _ hj hi]
  by_cases h3 : i < 3
  · rw [ob_or, ob_and, ob_xor, ob_shl (3 * k) (by omega) _ (show 3 * j + i < 32 by omega), ob_shl (3 * k) (by omega) _ (show 3 * j + i < 32 by omega), ob_7, ob_m1 _ (show 3 * j + i < 32 by omega)]
    by_cases e : j = k
    · rw [if_pos e, e, Nat.add_sub_cancel_left, decide_eq_true (show 3 * k ≤ 3 * k + i by omega), decide_eq_true h3]
      simp
    · rw [if_neg e, ob_fb _ hj hi]
      rcases Nat.lt_or_gt_of_ne e with z | z
      · rw [decide_eq_false (show ¬ 3 * k ≤ 3 * j + i by omega)]
        simp
      · rw [decide_eq_false (show ¬ 3 * j + i - 3 * k < 3 by omega), hnl (3 * j + i - 3 * k) (by omega)]
        simp
  · rw [decide_eq_false h3, Bool.false_and]
    by_cases e : j = k
    · rw [if_pos e, hnl i (by omega)]
    · rw [if_neg e, ob_fb _ hj hi, decide_eq_false h3, Bool.false_and]
theorem ob_put (w : Int32) {nl : Int32} (hnl : ∀ i, 3 ≤ i → ob_t nl i = false) {k j : Nat} (hk : k < 4) (hj : j < 4) (h0 : ob_f w k = 0) :
    ob_f (w ||| (nl <<< (nI (3 * k) &&& 31))) j = if j = k then nl else ob_f w j := by
  apply ob_ext
  intro i hi
  rw [ob_fb _ hj hi]
  by_cases h3 : i < 3
  · rw [ob_or, ob_shl (3 * k) (by omega) _ (show 3 * j + i < 32 by omega)]
    by_cases e : j = k
    · have hz := ob_fb w hk hi
      rw [h0, ob_0, decide_eq_true h3, Bool.true_and] at hz
      rw [if_pos e, e, Nat.add_sub_cancel_left, decide_eq_true (show 3 * k ≤ 3 * k + i by omega), decide_eq_true h3, ← hz]
      simp
    · rw [if_neg e, ob_fb _ hj hi]
      rcases Nat.lt_or_gt_of_ne e with z | z
      · rw [decide_eq_false (show ¬ 3 * k ≤ 3 * j + i by omega)]
        simp
      · rw [hnl (3 * j + i - 3 * k) (by omega)]
        simp
  · rw [decide_eq_false h3, Bool.false_and]
    by_cases e : j = k
    · rw [if_pos e, hnl i (by omega)]
    · rw [if_neg e, ob_fb _ hj hi, decide_eq_false h3, Bool.false_and]
theorem ob_f0 {k : Nat} (hk : k < 4) : ob_f 0 k = 0 := (by decide +kernel : ∀ k, k < 4 → ob_f 0 k = 0) k hk
/-- xor with a pad twice -/
theorem ob_xx (x y : Int32) : (x ^^^ y) ^^^ y = x := by
  apply ob_ext
  intro i _
  rw [ob_xor, ob_xor]
  cases ob_t x i <;> cases ob_t y i <;> rfl
/-! buckets -/
def mp_b (l k : Nat) : Nat := (4 + l) / 2 ^ (2 - k)
def mp_on (s l : Nat) : Prop := ∃ k, k < 3 ∧ s / 2 = mp_b l k
theorem mp_bk : ∀ l, l < 4 → ∀ k, k < 3 → (4 + nI l) >>> ((2 - nI k) &&& 31) = nI (mp_b l k) := by decide +kernel
theorem mp_lt : ∀ l, l < 4 → ∀ k, k < 3 → mp_b l k < 8 := by decide +kernel
def om_b (l k : Nat) : Nat := (8 + l) / 2 ^ (3 - k)
def om_on (s l : Nat) : Prop := ∃ k, k < 4 ∧ s / 4 = om_b l k
theorem om_bk : ∀ l, l < 8 → ∀ k, k < 4 → (8 + nI l) >>> ((3 - nI k) &&& 31) = nI (om_b l k) := by decide +kernel
theorem om_lt : ∀ l, l < 8 → ∀ k, k < 4 → om_b l k < 16 := by decide +kernel
theorem om_ne : ∀ l, l < 8 → ∀ k, k < 4 → ∀ j, j < k → om_b l j ≠ om_b l k := by decide +kernel
theorem ob_x2 (b : Nat) : 2 * nI b = nI (2 * b) := pk_mul 2 b
theorem ob_x4 (b : Nat) : 4 * nI b = nI (4 * b) := pk_mul 4 b
theorem ob_x22 (b : Nat) : 2 * nI b + 2 = nI (2 * b + 2) := by rw [ob_x2]; exact nI_add (2 * b) 2
theorem ob_x44 (b : Nat) : 4 * nI b + 4 = nI (4 * b + 4) := by rw [ob_x4]; exact nI_add (4 * b) 4
theorem ob_pred {m : Nat} (h : 0 < m) : nI m - 1 = nI (m - 1) := pk_sub (a := m) (b := 1) h
end
section
section
variable {f1 f2 f3 f4 f5 : Int32} {a1 a2 a3 a4 a5 a6 a7 a8 a9 a10 a11 a12 a13 a14 a15 a16 : Nat → Int32} {v : Nat → Int32} {p : Nat → Nat}
/-- mapFitting answers -1 or a stashed word whose path runs through the bucket -/
theorem mp_fit {post : Int32 → Prop} {m l k : Nat} (hm : m ≤ 4) (ht : ∀ i, i < m → ∃ q, q < 4 ∧ a13 i = nI q) (hl : l < 4) (hk : k < 3) (H0 : post (-1)) (H : ∀ i q, i < m → q < 4 → a13 i = nI q → mp_b q k = mp_b l k → post (nI i)) :
    wpX_mapFitting post (f1, nI m, f3, f4, f5, a1, a2, a3, a4, a5, a6, a7, a8, a9, a10, a11, a12, a13, a14, a15, a16) (nI l) (nI k) := by
  refine pk_loop (σ := Unit) (fun n i _ => wX_mapFitting_2 post (nI l) (nI k) f1 (nI m) f3 f4 f5 a1 a2 a3 a4 a5 a6 a7 a8 a9 a10 a11 a12 a13 a14 a15 a16 n (nI i)) (fun _ _ => True) m 0 () (by omega) trivial ?_ ?_
  · intro n _ _
    exact pk_le m m (fun _ => H0) (fun z => absurd z (by omega))
  · intro n i _ hi _ hw
    refine pk_le m i (fun z => absurd z (by omega)) (fun _ => ⟨pk_in i 4 (by omega), ?_⟩)
    obtain ⟨q, hq, eq⟩ := ht i hi
    rw [nI_clamp (show i < 2 ^ 31 by omega), eq]
    unfold wpX_mapBucketAt
    rw [mp_bk q hq k hk, mp_bk l hl k hk]
    have b1 := mp_lt q hq k hk
    have b2 := mp_lt l hl k hk
    exact pk_eq (mp_b q k) (mp_b l k) (fun z => H i q hi hq eq z) (fun z => nm_r (nI_1 i) (hw () trivial))
/-- the buckets of the path to l above level k are empty -/
def mp_C (l k : Nat) (O : Nat → Int32) : Prop := ∀ j, j < k → ∀ s, s / 2 = mp_b l j → O s = -1
theorem mp_rd18 {post : St2 → Prop} {J2 : Int32 → Int32 → (Nat → Int32) → (Nat → Int32) → (Nat → Int32) → (Nat → Int32) → (Nat → Int32) → (Nat → Int32) → (Nat → Int32) → (Nat → Int32) → (Nat → Int32) → (Nat → Int32) → (Nat → Int32) → (Nat → Int32) → (Nat → Int32) → (Nat → Int32) → (Nat → Int32) → (Nat → Int32) → Prop} {x1 : Int32} {l k : Nat} (hl : l < 4) (hk : k < 3)
    (H : ∀ m O so sc st loc, ot_T 16 4 mp_on O a9 a10 so sc st m v p loc → mp_C l (k + 1) O → J2 (nI (k + 1)) (nI m) a1 a2 a3 a4 a5 a6 a7 O a9 a10 so sc st a14 a15 a16) :
    ∀ r t, t + r = 2 → ∀ m O so sc st loc, ot_T 16 4 mp_on O a9 a10 so sc st m v p loc → mp_C l k O → (∀ s, 2 * mp_b l k ≤ s → s < 2 * mp_b l k + t → O s = -1) →
      wX_readMapPath_18 post J2 x1 (nI k) (nI (mp_b l k)) f1 f3 f4 f5 (r + 1) (nI (2 * mp_b l k + t)) (nI m) a1 a2 a3 a4 a5 a6 a7 O a9 a10 so sc st a14 a15 a16 := by
  have hb := mp_lt l hl k hk
  generalize hB : mp_b l k = B at *
  intro r
  induction r with
  | zero =>
    intro t ht m O so sc st loc hT hC hE
    refine pk_le (2 * B + 2) (2 * B + t) (fun _ => nm_r (nI_1 k) (H m O so sc st loc hT ?_)) (fun z => absurd z (by omega)) (ob_x22 B)
    intro j hj s hs
    by_cases e : j = k
    · rw [e, hB] at hs
      exact hE s (by omega) (by omega)
    · exact hC j (by omega) s hs
  | succ r ih =>
    intro t ht m O so sc st loc hT hC hE
    have hm := ot_m hT
    refine pk_le (2 * B + 2) (2 * B + t) (fun z => absurd z (by omega)) (fun _ => ⟨pk_in (2 * B + t) 16 (by omega), ?_⟩) (ob_x22 B)
    have e1 : (nI (2 * B + t)).toNatClampNeg = 2 * B + t := nI_clamp (by omega)
    have e2 : (nI m).toNatClampNeg = m := nI_clamp (by omega)
    refine br_c (fun hO => nm_r (nI_1 _) ?_) (fun hO => ?_)
    · rw [e1] at hO
      refine ih (t + 1) (by omega) m O so sc st loc hT hC (fun s h1 h2 => ?_)
      by_cases e : s = 2 * B + t
      · rw [e]; exact hO
      · exact hE s h1 (by omega)
    · rw [e1] at hO
      have hr := ot_room hT (show 2 * B + t < 16 by omega) hO
      obtain ⟨loc', hT'⟩ := ot_read (by omega) hT (show 2 * B + t < 16 by omega) hO
      refine pk_le 4 m (fun z => absurd z (by omega)) (fun _ => ⟨pk_in (2 * B + t) 16 (by omega), pk_in m 4 hr, nm_r (show upd so _ _ = upd so m (O (2 * B + t)) by rw [e1, e2]) ⟨pk_in (2 * B + t) 16 (by omega), pk_in m 4 hr, nm_r (show upd sc _ _ = upd sc m (a9 (2 * B + t)) by rw [e1, e2]) ⟨pk_in (2 * B + t) 16 (by omega), pk_in m 4 hr, nm_r (show upd st _ _ = upd st m (a10 (2 * B + t)) by rw [e1, e2]) ⟨pk_in (2 * B + t) 16 (by omega), nm_r (show upd O _ _ = upd O (2 * B + t) (-1) by rw [e1]) (nm_r (nI_1 m) (nm_r (nI_1 _) ?_))⟩⟩⟩⟩)
      refine ih (t + 1) (by omega) (m + 1) _ _ _ _ loc' hT' (fun j hj s hs => ?_) (fun s h1 h2 => ?_)
      · by_cases e : s = 2 * B + t
        · rw [e, pk_us]
        · rw [pk_un e]; exact hC j hj s hs
      · by_cases e : s = 2 * B + t
        · rw [e, pk_us]
        · rw [pk_un e]; exact hE s h1 (by omega)
theorem mp_rd2 {post : St2 → Prop} {l : Nat} (hl : l < 4)
    (H : ∀ m O so sc st loc, ot_T 16 4 mp_on O a9 a10 so sc st m v p loc → (∀ s, mp_on s l → O s = -1) → post (f1, nI m, f3, f4, f5, a1, a2, a3, a4, a5, a6, a7, O, a9, a10, so, sc, st, a14, a15, a16)) :
    ∀ r k, k + r = 3 → ∀ m O so sc st loc, ot_T 16 4 mp_on O a9 a10 so sc st m v p loc → mp_C l k O →
      wX_readMapPath_2 post (nI l) f1 f3 f4 f5 (r + 1) (nI k) (nI m) a1 a2 a3 a4 a5 a6 a7 O a9 a10 so sc st a14 a15 a16 := by
  intro r
  induction r with
  | zero =>
    intro k hk m O so sc st loc hT hC
    refine pk_le 3 k (fun _ => H m O so sc st loc hT ?_) (fun z => absurd z (by omega))
    intro s hs
    obtain ⟨j, hj, ej⟩ := hs
    exact hC j (by omega) s ej
  | succ r ih =>
    intro k hk m O so sc st loc hT hC
    refine pk_le 3 k (fun z => absurd z (by omega)) (fun _ => ?_)
    unfold wpX_mapBucketAt
    rw [mp_bk l hl k (by omega)]
    refine nm_r (ob_x2 _) ⟨3, ?_⟩
    exact mp_rd18 hl (by omega) (fun m O so sc st loc hT hC => ih (k + 1) (by omega) m O so sc st loc hT hC) 2 0 rfl m O so sc st loc hT hC (fun s h1 h2 => absurd h1 (by omega))
theorem mp_read {post : St2 → Prop} {l m : Nat} {loc : Nat → Nat} (hl : l < 4) (hT : ot_T 16 4 mp_on a8 a9 a10 a11 a12 a13 m v p loc)
    (H : ∀ m O so sc st loc, ot_T 16 4 mp_on O a9 a10 so sc st m v p loc → (∀ s, mp_on s l → O s = -1) → post (f1, nI m, f3, f4, f5, a1, a2, a3, a4, a5, a6, a7, O, a9, a10, so, sc, st, a14, a15, a16)) :
    wpX_readMapPath post (f1, nI m, f3, f4, f5, a1, a2, a3, a4, a5, a6, a7, a8, a9, a10, a11, a12, a13, a14, a15, a16) (nI l) :=
  ⟨4, mp_rd2 hl H 3 0 rfl m a8 a11 a12 a13 loc hT (fun j hj => absurd hj (by omega))⟩
theorem mp_wr17 {post : St2 → Prop} {J2 : Int32 → Int32 → (Nat → Int32) → (Nat → Int32) → (Nat → Int32) → (Nat → Int32) → (Nat → Int32) → (Nat → Int32) → (Nat → Int32) → (Nat → Int32) → (Nat → Int32) → (Nat → Int32) → (Nat → Int32) → (Nat → Int32) → (Nat → Int32) → (Nat → Int32) → (Nat → Int32) → (Nat → Int32) → Prop} {l k : Nat} (hl : l < 4) (hk : k < 3) (hp : ∀ b, b < 4 → p b < 4)
    (H : ∀ m O C T so sc st loc, ot_T 16 4 mp_on O C T so sc st m v p loc → J2 (nI k + (-1)) (nI m) a1 a2 a3 a4 a5 a6 a7 O C T so sc st a14 a15 a16) :
    ∀ r t, t + r = 2 → ∀ m O C T so sc st loc, ot_T 16 4 mp_on O C T so sc st m v p loc →
      wX_writeMapPath_17 post J2 (nI l) (nI k) (nI (mp_b l k)) f1 f3 f4 f5 (r + 1) (nI (2 * mp_b l k + t)) (nI m) a1 a2 a3 a4 a5 a6 a7 O C T so sc st a14 a15 a16 := by
  have hb := mp_lt l hl k hk
  intro r
  induction r with
  | zero =>
    intro t ht m O C T so sc st loc hT
    exact pk_le (2 * mp_b l k + 2) (2 * mp_b l k + t) (fun _ => nm_e (H m O C T so sc st loc hT)) (fun z => absurd z (by omega)) (ob_x22 _)
  | succ r ih =>
    intro t ht m O C T so sc st loc hT
    have hm := ot_m hT
    refine pk_le (2 * mp_b l k + 2) (2 * mp_b l k + t) (fun z => absurd z (by omega)) (fun _ => ?_) (ob_x22 _)
    have hs : 2 * mp_b l k + t < 16 := by omega
    have e1 : (nI (2 * mp_b l k + t)).toNatClampNeg = 2 * mp_b l k + t := nI_clamp (by omega)
    refine mp_fit hm (fun i hi => ?_) hl hk ⟨pk_in _ 16 hs, br_c (fun hO => br_t rfl (nm_r (nI_1 _) (ih (t + 1) (by omega) m O C T so sc st loc hT))) (fun hO => nm_r (nI_1 _) (ih (t + 1) (by omega) m O C T so sc st loc hT))⟩ (fun i q hi hq eq hbk => ⟨pk_in _ 16 hs, br_c (fun hO => br_f (ot_n1 (by omega)) (nm_r (ob_pred (by omega)) ?_)) (fun hO => nm_r (nI_1 _) (ih (t + 1) (by omega) m O C T so sc st loc hT))⟩)
    · obtain ⟨b, hb, _, _, _, h3⟩ := ot_stash hT hi
      exact ⟨p b, hp b hb, h3⟩
    · rw [e1] at hO
      have e2 : (nI i).toNatClampNeg = i := nI_clamp (by omega)
      have e3 : (nI (m - 1)).toNatClampNeg = m - 1 := nI_clamp (by omega)
      have hi4 : i < 4 := by omega
      have hm4 : m - 1 < 4 := by omega
      obtain ⟨loc', hT'⟩ := ot_settle (by omega) hT (D' := upd C (2 * mp_b l k + t) (sc i)) hs hO hi (fun b hb e => ⟨k, hk, by
        rw [eq] at e
        have := hp b hb
        have e4 : q = p b := (nI_eq (by omega) (by omega)).mp e
        rw [← e4, hbk]
        omega⟩) pk_us (fun u hu _ => pk_un hu)
      refine ⟨pk_in i 4 hi4, pk_in _ 16 hs, nm_r (show upd O _ _ = upd O (2 * mp_b l k + t) (so i) by rw [e1, e2]) ⟨pk_in i 4 hi4, pk_in _ 16 hs, nm_r (show upd C _ _ = upd C (2 * mp_b l k + t) (sc i) by rw [e1, e2]) ⟨pk_in i 4 hi4, pk_in _ 16 hs, nm_r (show upd T _ _ = upd T (2 * mp_b l k + t) (st i) by rw [e1, e2]) ⟨pk_in _ 4 hm4, pk_in i 4 hi4, nm_r (show upd so _ _ = upd so i (so (m - 1)) by rw [e2, e3]) ⟨pk_in _ 4 hm4, pk_in i 4 hi4, nm_r (show upd sc _ _ = upd sc i (sc (m - 1)) by rw [e2, e3]) ⟨pk_in _ 4 hm4, pk_in i 4 hi4, nm_r (show upd st _ _ = upd st i (st (m - 1)) by rw [e2, e3]) (nm_r (nI_1 _) ?_)⟩⟩⟩⟩⟩⟩
      exact ih (t + 1) (by omega) (m - 1) _ _ _ _ _ _ loc' hT'
theorem mp_wr2 {post : St2 → Prop} {l : Nat} (hl : l < 4) (hp : ∀ b, b < 4 → p b < 4)
    (H : ∀ m O C T so sc st loc, ot_T 16 4 mp_on O C T so sc st m v p loc → post (f1, nI m, f3, f4, f5, a1, a2, a3, a4, a5, a6, a7, O, C, T, so, sc, st, a14, a15, a16)) :
    ∀ k, k ≤ 3 → ∀ m O C T so sc st loc, ot_T 16 4 mp_on O C T so sc st m v p loc →
      wX_writeMapPath_2 post (nI l) f1 f3 f4 f5 (k + 1) (nI k + (-1)) (nI m) a1 a2 a3 a4 a5 a6 a7 O C T so sc st a14 a15 a16 := by
  intro k
  induction k with
  | zero =>
    intro hk m O C T so sc st loc hT
    exact br_t (by decide) (H m O C T so sc st loc hT)
  | succ k ih =>
    intro hk m O C T so sc st loc hT
    rw [pk_m1]
    refine br_f (nI_pos (by omega)) ?_
    unfold wpX_mapBucketAt
    rw [mp_bk l hl k (by omega)]
    refine nm_r (ob_x2 _) ⟨3, ?_⟩
    exact mp_wr17 hl (by omega) hp (fun m O C T so sc st loc hT => ih (by omega) m O C T so sc st loc hT) 2 0 rfl m O C T so sc st loc hT
theorem mp_write {post : St2 → Prop} {l m : Nat} {loc : Nat → Nat} (hl : l < 4) (hp : ∀ b, b < 4 → p b < 4) (hT : ot_T 16 4 mp_on a8 a9 a10 a11 a12 a13 m v p loc)
    (H : ∀ m O C T so sc st loc, ot_T 16 4 mp_on O C T so sc st m v p loc → post (f1, nI m, f3, f4, f5, a1, a2, a3, a4, a5, a6, a7, O, C, T, so, sc, st, a14, a15, a16)) :
    wpX_writeMapPath post (f1, nI m, f3, f4, f5, a1, a2, a3, a4, a5, a6, a7, a8, a9, a10, a11, a12, a13, a14, a15, a16) (nI l) :=
  ⟨4, mp_wr2 hl hp H 3 (by omega) m a8 a9 a10 a11 a12 a13 loc hT⟩
end
end
section
def om_p1 (key ver slot : Int32) : Int32 := (key + (slot * 1640531527)) + (ver * 374761393)
def om_p2 (x : Int32) : Int32 := (x ^^^ ((x.toUInt32 >>> ((15 : Int32).toUInt32 &&& Int32.toUInt32 31)).toInt32)) * 668265263
def om_p3 (x : Int32) : Int32 := (x ^^^ ((x.toUInt32 >>> ((13 : Int32).toUInt32 &&& Int32.toUInt32 31)).toInt32)) * 1103515245
def om_p4 (x : Int32) : Int32 := x ^^^ ((x.toUInt32 >>> ((16 : Int32).toUInt32 &&& Int32.toUInt32 31)).toInt32)
/-- the pad of a slot -/
def om_pad (key ver slot : Int32) : Int32 := om_p4 (om_p3 (om_p2 (om_p1 key ver slot)))
/-- what a slot holds, unscrambled -/
def om_D (key : Int32) (c ver : Nat → Int32) (s : Nat) : Int32 := c s ^^^ om_pad key (ver (s / 4)) (nI s)
section
variable {f1 f2 f3 f4 f5 : Int32} {a1 a2 a3 a4 a5 a6 a7 a8 a9 a10 a11 a12 a13 a14 a15 a16 : Nat → Int32} {v : Nat → Int32} {p : Nat → Nat}
theorem om_pd {post : Int32 → Prop} {s : Nat} (hs : s < 64) (H : post (om_pad f4 (a4 (s / 4)) (nI s))) : wpX_pad post (f1, f2, f3, f4, f5, a1, a2, a3, a4, a5, a6, a7, a8, a9, a10, a11, a12, a13, a14, a15, a16) (nI s) := by
  have e : nI s >>> ((2 : Int32) &&& 31) = nI (s / 4) := pk_shrN (by omega) _ 2 (by decide)
  refine ⟨?_, ?_⟩
  · rw [e]
    exact vp_in_nI (by omega) (by omega)
  · rw [e, nI_clamp (show s / 4 < 2 ^ 31 by omega)]
    exact nm_e (nm_e (nm_e H))
theorem om_fit {post : Int32 → Prop} {m l k : Nat} (hm : m ≤ 16) (ht : ∀ i, i < m → ∃ q, q < 8 ∧ a7 i = nI q) (hl : l < 8) (hk : k < 4) (H0 : post (-1)) (H : ∀ i q, i < m → q < 8 → a7 i = nI q → om_b q k = om_b l k → post (nI i)) :
    wpX_fitting post (nI m, f2, f3, f4, f5, a1, a2, a3, a4, a5, a6, a7, a8, a9, a10, a11, a12, a13, a14, a15, a16) (nI l) (nI k) := by
  refine pk_loop (σ := Unit) (fun n i _ => wX_fitting_2 post (nI l) (nI k) (nI m) f2 f3 f4 f5 a1 a2 a3 a4 a5 a6 a7 a8 a9 a10 a11 a12 a13 a14 a15 a16 n (nI i)) (fun _ _ => True) m 0 () (by omega) trivial ?_ ?_
  · intro n _ _
    exact pk_le m m (fun _ => H0) (fun z => absurd z (by omega))
  · intro n i _ hi _ hw
    refine pk_le m i (fun z => absurd z (by omega)) (fun _ => ⟨pk_in i 16 (by omega), ?_⟩)
    obtain ⟨q, hq, eq⟩ := ht i hi
    rw [nI_clamp (show i < 2 ^ 31 by omega), eq]
    unfold wpX_bucketAt
    rw [om_bk q hq k hk, om_bk l hl k hk]
    have b1 := om_lt q hq k hk
    have b2 := om_lt l hl k hk
    exact pk_eq (om_b q k) (om_b l k) (fun z => H i q hi hq eq z) (fun z => nm_r (nI_1 i) (hw () trivial))
theorem om_stl {post : St2 → Prop} {m i s : Nat} (hm : m ≤ 16) (hi : i < m) (hs : s < 64)
    (H : post (nI (m - 1), f2, f3, f4, f5, upd a1 s (a5 i), upd a2 s (a6 i ^^^ om_pad f4 (a4 (s / 4)) (nI s)), upd a3 s (a7 i), a4, upd a5 i (a5 (m - 1)), upd a6 i (a6 (m - 1)), upd a7 i (a7 (m - 1)), a8, a9, a10, a11, a12, a13, a14, a15, a16)) :
    wpX_settle post (nI m, f2, f3, f4, f5, a1, a2, a3, a4, a5, a6, a7, a8, a9, a10, a11, a12, a13, a14, a15, a16) (nI i) (nI s) := by
  have e1 : (nI s).toNatClampNeg = s := nI_clamp (by omega)
  have e2 : (nI i).toNatClampNeg = i := nI_clamp (by omega)
  have e3 : (nI (m - 1)).toNatClampNeg = m - 1 := nI_clamp (by omega)
  have i16 : i < 16 := by omega
  have m16 : m - 1 < 16 := by omega
  refine ⟨pk_in i 16 i16, pk_in s 64 hs, nm_r (show upd a1 _ _ = upd a1 s (a5 i) by rw [e1, e2]) ⟨pk_in i 16 i16, om_pd hs ⟨pk_in s 64 hs, nm_r (show upd a2 _ _ = upd a2 s (a6 i ^^^ om_pad f4 (a4 (s / 4)) (nI s)) by rw [e1, e2]) ⟨pk_in i 16 i16, pk_in s 64 hs, nm_r (show upd a3 _ _ = upd a3 s (a7 i) by rw [e1, e2]) (nm_r (ob_pred (by omega)) ⟨pk_in _ 16 m16, pk_in i 16 i16, nm_r (show upd a5 _ _ = upd a5 i (a5 (m - 1)) by rw [e2, e3]) ⟨pk_in _ 16 m16, pk_in i 16 i16, nm_r (show upd a6 _ _ = upd a6 i (a6 (m - 1)) by rw [e2, e3]) ⟨pk_in _ 16 m16, pk_in i 16 i16, nm_r (show upd a7 _ _ = upd a7 i (a7 (m - 1)) by rw [e2, e3]) H⟩⟩⟩)⟩⟩⟩⟩
/-- the buckets of the path to l above level k are empty -/
def om_C (l k : Nat) (O : Nat → Int32) : Prop := ∀ j, j < k → ∀ s, s / 4 = om_b l j → O s = -1
theorem om_rd28 {post : St2 → Prop} {J2 : Int32 → Int32 → Int32 → (Nat → Int32) → (Nat → Int32) → (Nat → Int32) → (Nat → Int32) → (Nat → Int32) → (Nat → Int32) → (Nat → Int32) → (Nat → Int32) → (Nat → Int32) → (Nat → Int32) → (Nat → Int32) → (Nat → Int32) → (Nat → Int32) → (Nat → Int32) → (Nat → Int32) → (Nat → Int32) → Prop} {x1 : Int32} {l k : Nat} (hl : l < 8) (hk : k < 4)
    (H : ∀ m O so sc st loc, ot_T 64 16 om_on O (om_D f4 a2 a4) a3 so sc st m v p loc → om_C l (k + 1) O → J2 (nI (k + 1)) (nI m) f5 O a2 a3 a4 so sc st a8 a9 a10 a11 a12 a13 a14 a15 a16) :
    ∀ r t, t + r = 4 → ∀ m O so sc st loc, ot_T 64 16 om_on O (om_D f4 a2 a4) a3 so sc st m v p loc → om_C l k O → (∀ s, 4 * om_b l k ≤ s → s < 4 * om_b l k + t → O s = -1) →
      wX_readPath_28 post J2 x1 (nI k) (nI (om_b l k)) f2 f3 f4 f5 (r + 1) (nI (4 * om_b l k + t)) (nI m) O a2 a3 a4 so sc st a8 a9 a10 a11 a12 a13 a14 a15 a16 := by
  have hb := om_lt l hl k hk
  generalize hB : om_b l k = B at *
  intro r
  induction r with
  | zero =>
    intro t ht m O so sc st loc hT hC hE
    refine pk_le (4 * B + 4) (4 * B + t) (fun _ => nm_r (nI_1 k) (H m O so sc st loc hT ?_)) (fun z => absurd z (by omega)) (ob_x44 B)
    intro j hj s hs
    by_cases e : j = k
    · rw [e, hB] at hs
      exact hE s (by omega) (by omega)
    · exact hC j (by omega) s hs
  | succ r ih =>
    intro t ht m O so sc st loc hT hC hE
    have hm := ot_m hT
    have hs64 : 4 * B + t < 64 := by omega
    refine pk_le (4 * B + 4) (4 * B + t) (fun z => absurd z (by omega)) (fun _ => ⟨pk_in (4 * B + t) 64 hs64, ?_⟩) (ob_x44 B)
    have e1 : (nI (4 * B + t)).toNatClampNeg = 4 * B + t := nI_clamp (by omega)
    have e2 : (nI m).toNatClampNeg = m := nI_clamp (by omega)
    refine br_c (fun hO => nm_r (nI_1 _) ?_) (fun hO => ?_)
    · rw [e1] at hO
      refine ih (t + 1) (by omega) m O so sc st loc hT hC (fun s h1 h2 => ?_)
      by_cases e : s = 4 * B + t
      · rw [e]; exact hO
      · exact hE s h1 (by omega)
    · rw [e1] at hO
      have hr := ot_room hT hs64 hO
      obtain ⟨loc', hT'⟩ := ot_read (by omega) hT hs64 hO
      refine pk_le 16 m (fun z => absurd z (by omega)) (fun _ => ⟨pk_in (4 * B + t) 64 hs64, pk_in m 16 hr, nm_r (show upd so _ _ = upd so m (O (4 * B + t)) by rw [e1, e2]) ⟨pk_in (4 * B + t) 64 hs64, om_pd hs64 ⟨pk_in m 16 hr, nm_r (show upd sc _ _ = upd sc m (om_D f4 a2 a4 (4 * B + t)) by rw [e1, e2]; rfl) ⟨pk_in (4 * B + t) 64 hs64, pk_in m 16 hr, nm_r (show upd st _ _ = upd st m (a3 (4 * B + t)) by rw [e1, e2]) ⟨pk_in (4 * B + t) 64 hs64, nm_r (show upd O _ _ = upd O (4 * B + t) (-1) by rw [e1]) (nm_r (nI_1 m) (nm_r (nI_1 _) ?_))⟩⟩⟩⟩⟩)
      refine ih (t + 1) (by omega) (m + 1) _ _ _ _ loc' hT' (fun j hj s hs => ?_) (fun s h1 h2 => ?_)
      · by_cases e : s = 4 * B + t
        · rw [e, pk_us]
        · rw [pk_un e]; exact hC j hj s hs
      · by_cases e : s = 4 * B + t
        · rw [e, pk_us]
        · rw [pk_un e]; exact hE s h1 (by omega)
theorem om_rd2 {post : St2 → Prop} {l : Nat} (hl : l < 8)
    (H : ∀ m f5 O so sc st loc, ot_T 64 16 om_on O (om_D f4 a2 a4) a3 so sc st m v p loc → (∀ s, om_on s l → O s = -1) → post (nI m, f2, f3, f4, f5, O, a2, a3, a4, so, sc, st, a8, a9, a10, a11, a12, a13, a14, a15, a16)) :
    ∀ r k, k + r = 4 → ∀ m f5 O so sc st loc, ot_T 64 16 om_on O (om_D f4 a2 a4) a3 so sc st m v p loc → om_C l k O →
      wX_readPath_2 post (nI l) f2 f3 f4 (r + 1) (nI k) (nI m) f5 O a2 a3 a4 so sc st a8 a9 a10 a11 a12 a13 a14 a15 a16 := by
  intro r
  induction r with
  | zero =>
    intro k hk m f5 O so sc st loc hT hC
    refine pk_le 4 k (fun _ => H m f5 O so sc st loc hT ?_) (fun z => absurd z (by omega))
    intro s hs
    obtain ⟨j, hj, ej⟩ := hs
    exact hC j (by omega) s ej
  | succ r ih =>
    intro k hk m f5 O so sc st loc hT hC
    refine pk_le 4 k (fun z => absurd z (by omega)) (fun _ => ?_)
    unfold wpX_bucketAt
    rw [om_bk l hl k (by omega)]
    refine nm_e (nm_r (ob_x4 _) ⟨5, ?_⟩)
    exact om_rd28 hl (by omega) (fun m O so sc st loc hT hC => ih (k + 1) (by omega) m _ O so sc st loc hT hC) 4 0 rfl m O so sc st loc hT hC (fun s h1 h2 => absurd h1 (by omega))
theorem om_read {post : St2 → Prop} {l m : Nat} {loc : Nat → Nat} (hl : l < 8) (hT : ot_T 64 16 om_on a1 (om_D f4 a2 a4) a3 a5 a6 a7 m v p loc)
    (H : ∀ m f5 O so sc st loc, ot_T 64 16 om_on O (om_D f4 a2 a4) a3 so sc st m v p loc → (∀ s, om_on s l → O s = -1) → post (nI m, f2, f3, f4, f5, O, a2, a3, a4, so, sc, st, a8, a9, a10, a11, a12, a13, a14, a15, a16)) :
    wpX_readPath post (nI m, f2, f3, f4, f5, a1, a2, a3, a4, a5, a6, a7, a8, a9, a10, a11, a12, a13, a14, a15, a16) (nI l) :=
  ⟨5, om_rd2 hl H 4 0 rfl m f5 a1 a5 a6 a7 loc hT (fun j hj => absurd hj (by omega))⟩
theorem om_nx {post : Int32 → St2 → Prop} (H : ∀ r x, post r (f1, f2, x, f4, f5, a1, a2, a3, a4, a5, a6, a7, a8, a9, a10, a11, a12, a13, a14, a15, a16)) : wpX_next post (f1, f2, f3, f4, f5, a1, a2, a3, a4, a5, a6, a7, a8, a9, a10, a11, a12, a13, a14, a15, a16) := nm_e (nm_e (nm_e (H _ _)))
theorem om_nx2 {post : Int32 → St2 → Prop} (H : ∀ r x, post r (f1, f2, x, f4, f5, a1, a2, a3, a4, a5, a6, a7, a8, a9, a10, a11, a12, a13, a14, a15, a16)) : wpX_next_2 post (f1, f2, f3, f4, f5, a1, a2, a3, a4, a5, a6, a7, a8, a9, a10, a11, a12, a13, a14, a15, a16) := nm_e (nm_e (nm_e (H _ _)))
theorem om_nx3 {post : Int32 → St2 → Prop} (H : ∀ r x, post r (f1, f2, x, f4, f5, a1, a2, a3, a4, a5, a6, a7, a8, a9, a10, a11, a12, a13, a14, a15, a16)) : wpX_next_3 post (f1, f2, f3, f4, f5, a1, a2, a3, a4, a5, a6, a7, a8, a9, a10, a11, a12, a13, a14, a15, a16) := nm_e (nm_e (nm_e (H _ _)))
theorem om_wr27 {post : St2 → Prop} {J2 : Int32 → Int32 → Int32 → Int32 → Int32 → Int32 → (Nat → Int32) → (Nat → Int32) → (Nat → Int32) → (Nat → Int32) → (Nat → Int32) → (Nat → Int32) → (Nat → Int32) → (Nat → Int32) → (Nat → Int32) → (Nat → Int32) → (Nat → Int32) → (Nat → Int32) → (Nat → Int32) → (Nat → Int32) → (Nat → Int32) → (Nat → Int32) → Prop} {l k : Nat} (hl : l < 8) (hk : k < 4) (hp : ∀ b, b < 16 → p b < 8)
    (H : ∀ m f3 O C T so sc st loc, ot_T 64 16 om_on O (om_D f4 C a4) T so sc st m v p loc → om_C l k O → J2 (nI k + (-1)) (nI m) f2 f3 f4 f5 O C T a4 so sc st a8 a9 a10 a11 a12 a13 a14 a15 a16) :
    ∀ r t, t + r = 4 → ∀ m f3 O C T so sc st loc, ot_T 64 16 om_on O (om_D f4 C a4) T so sc st m v p loc → om_C l k O → (∀ s, 4 * om_b l k + t ≤ s → s < 4 * om_b l k + 4 → O s = -1) →
      wX_writePath_27 post J2 (nI l) (nI k) (nI (om_b l k)) (r + 1) (nI (4 * om_b l k + t)) (nI m) f2 f3 f4 f5 O C T a4 so sc st a8 a9 a10 a11 a12 a13 a14 a15 a16 := by
  have hb := om_lt l hl k hk
  intro r
  induction r with
  | zero =>
    intro t ht m f3 O C T so sc st loc hT hC hE
    exact pk_le (4 * om_b l k + 4) (4 * om_b l k + t) (fun _ => nm_e (H m f3 O C T so sc st loc hT hC)) (fun z => absurd z (by omega)) (ob_x44 _)
  | succ r ih =>
    intro t ht m f3 O C T so sc st loc hT hC hE
    have hm := ot_m hT
    refine pk_le (4 * om_b l k + 4) (4 * om_b l k + t) (fun z => absurd z (by omega)) (fun _ => ?_) (ob_x44 _)
    have hs : 4 * om_b l k + t < 64 := by omega
    have hO : O (4 * om_b l k + t) = -1 := hE _ (by omega) (by omega)
    have e1 : (nI (4 * om_b l k + t)).toNatClampNeg = 4 * om_b l k + t := nI_clamp (by omega)
    refine om_fit hm (fun i hi => ?_) hl hk (br_t rfl (om_nx2 (fun r x => ⟨pk_in _ 64 hs, nm_r (show upd C _ _ = upd C (4 * om_b l k + t) r by rw [e1]) (nm_r (nI_1 _) (ih (t + 1) (by omega) m x O _ T so sc st loc ?_ hC (fun s h1 h2 => hE s (by omega) h2)))⟩))) (fun i q hi hq eq hbk => br_f (ot_n1 (by omega)) (om_stl hm hi hs (nm_r (nI_1 _) ?_)))
    · obtain ⟨b, hb, _, _, _, h3⟩ := ot_stash hT hi
      exact ⟨p b, hp b hb, h3⟩
    · refine ot_D (by omega) hT (fun s _ h => ?_)
      have hne : s ≠ 4 * om_b l k + t := fun e => h (by rw [e]; exact hO)
      show upd C _ _ s ^^^ _ = C s ^^^ _
      rw [pk_un hne]
    · obtain ⟨loc', hT'⟩ := ot_settle (by omega) hT (D' := om_D f4 (upd C (4 * om_b l k + t) (sc i ^^^ om_pad f4 (a4 ((4 * om_b l k + t) / 4)) (nI (4 * om_b l k + t)))) a4) hs hO hi (fun b hb e => ⟨k, hk, by
        rw [eq] at e
        have := hp b hb
        have e4 : q = p b := (nI_eq (by omega) (by omega)).mp e
        rw [← e4, hbk]
        omega⟩) (by
          show upd C _ _ _ ^^^ _ = _
          rw [pk_us, ob_xx]) (fun u hu _ => by
          show upd C _ _ _ ^^^ _ = C u ^^^ _
          rw [pk_un hu])
      refine ih (t + 1) (by omega) (m - 1) f3 _ _ _ _ _ _ loc' hT' (fun j hj s hs => ?_) (fun s h1 h2 => ?_)
      · have hne : s ≠ 4 * om_b l k + t := by
          intro e
          have := om_ne l hl k hk j hj
          omega
        rw [pk_un hne]
        exact hC j hj s hs
      · rw [pk_un (by omega)]
        exact hE s (by omega) h2
theorem om_wr2 {post : St2 → Prop} {l : Nat} (hl : l < 8) (hp : ∀ b, b < 16 → p b < 8)
    (H : ∀ m f3 O C T V so sc st loc, ot_T 64 16 om_on O (om_D f4 C V) T so sc st m v p loc → post (nI m, f2, f3, f4, f5, O, C, T, V, so, sc, st, a8, a9, a10, a11, a12, a13, a14, a15, a16)) :
    ∀ k, k ≤ 4 → ∀ m f3 O C T V so sc st loc, ot_T 64 16 om_on O (om_D f4 C V) T so sc st m v p loc → om_C l k O →
      wX_writePath_2 post (nI l) (k + 1) (nI k + (-1)) (nI m) f2 f3 f4 f5 O C T V so sc st a8 a9 a10 a11 a12 a13 a14 a15 a16 := by
  intro k
  induction k with
  | zero =>
    intro hk m f3 O C T V so sc st loc hT hC
    exact br_t (by decide) (H m f3 O C T V so sc st loc hT)
  | succ k ih =>
    intro hk m f3 O C T V so sc st loc hT hC
    have hb := om_lt l hl k (by omega)
    rw [pk_m1]
    refine br_f (nI_pos (by omega)) ?_
    unfold wpX_bucketAt
    rw [om_bk l hl k (by omega)]
    refine ⟨pk_in _ 16 hb, pk_in _ 16 hb, nm_r (show upd V _ _ = upd V (om_b l k) (V (om_b l k) + 1) by rw [nI_clamp (show om_b l k < 2 ^ 31 by omega)]) (nm_r (ob_x4 _) ⟨5, ?_⟩)⟩
    refine om_wr27 hl (by omega) hp (fun m f3 O C T so sc st loc hT hC => ih (by omega) m f3 O C T _ so sc st loc hT hC) 4 0 rfl m f3 O C T so sc st loc (ot_D (by omega) hT (fun s _ h => ?_)) (fun j hj => hC j (by omega)) (fun s h1 h2 => hC k (by omega) s (by omega))
    have hne : s / 4 ≠ om_b l k := fun e => h (hC k (by omega) s e)
    show C s ^^^ om_pad f4 (upd V _ _ (s / 4)) _ = C s ^^^ om_pad f4 (V (s / 4)) _
    rw [pk_un hne]
theorem om_write {post : St2 → Prop} {l m : Nat} {loc : Nat → Nat} (hl : l < 8) (hp : ∀ b, b < 16 → p b < 8) (hT : ot_T 64 16 om_on a1 (om_D f4 a2 a4) a3 a5 a6 a7 m v p loc) (hC : ∀ s, om_on s l → a1 s = -1)
    (H : ∀ m f3 O C T V so sc st loc, ot_T 64 16 om_on O (om_D f4 C V) T so sc st m v p loc → post (nI m, f2, f3, f4, f5, O, C, T, V, so, sc, st, a8, a9, a10, a11, a12, a13, a14, a15, a16)) :
    wpX_writePath post (nI m, f2, f3, f4, f5, a1, a2, a3, a4, a5, a6, a7, a8, a9, a10, a11, a12, a13, a14, a15, a16) (nI l) :=
  ⟨5, om_wr2 hl hp H 4 (by omega) m f3 a1 a2 a3 a4 a5 a6 a7 loc hT (fun j hj s hs => hC s ⟨j, hj, hs⟩)⟩
end
end
section
/-- a packed word with a new leaf in its k-th place -/
def ob_nw (w : Int32) (k nl : Nat) : Int32 := (w &&& (((7 : Int32) <<< (nI (3 * k) &&& 31)) ^^^ (-1))) ||| (nI nl <<< (nI (3 * k) &&& 31))
section
variable {f1 f2 f3 f4 f5 : Int32} {a1 a2 a3 a4 a5 a6 a7 a8 a9 a10 a11 a12 a13 a14 a15 a16 : Nat → Int32} {v : Nat → Int32} {p loc : Nat → Nat}
theorem mp_lfa {post : Int32 → St2 → Prop} {x2 x4 x6 : Int32} {l w m i0 : Nat} (hl : l < 4) (hp : ∀ b, b < 4 → p b < 4) (hT : ot_T 16 4 mp_on a8 a9 a10 a11 a12 a13 m v p loc) (hu : ∀ j, j < m → a11 j = nI w → j = i0)
    (H : ∀ m O C T so sc st loc, ot_T 16 4 mp_on O C T so sc st m v p loc → post x6 (f1, nI m, f3, f4, f5, a1, a2, a3, a4, a5, a6, a7, O, C, T, so, sc, st, a14, a15, a16)) :
    ∀ r i, i + r = m → i0 < i → wX_leafOf_43 post x2 (nI w) x4 (nI l) f1 (nI m) f3 f4 f5 (r + 1) x6 (nI i) a1 a2 a3 a4 a5 a6 a7 a8 a9 a10 a11 a12 a13 a14 a15 a16 := by
  have hm := ot_m hT
  intro r
  induction r with
  | zero =>
    intro i hi h0
    exact pk_le m i (fun _ => mp_write hl hp hT H) (fun z => absurd z (by omega))
  | succ r ih =>
    intro i hi h0
    refine pk_le m i (fun z => absurd z (by omega)) (fun z => ⟨pk_in i 4 (by omega), br_f ?_ (nm_r (nI_1 i) (ih (i + 1) (by omega) (by omega)))⟩)
    rw [nI_clamp (show i < 2 ^ 31 by omega)]
    intro e
    have := hu i (by omega) e
    omega
theorem mp_lfb {post : Int32 → St2 → Prop} {x6 lf : Int32} {l w k nl q m i0 : Nat} (hl : l < 4) (hw : w < 4) (hnl : nl < 8) (hq : q < 4) (hp : ∀ b, b < 4 → p b < 4) (hT : ot_T 16 4 mp_on a8 a9 a10 a11 a12 a13 m v p loc) (hi0 : i0 < m) (hso : a11 i0 = nI w) (hsc : a12 i0 = v w) (hu : ∀ j, j < m → a11 j = nI w → j = i0) (h14 : a14 w = nI q) (hlf : ob_f (v w) k = lf)
    (H : ∀ m O C T so sc st loc, ot_T 16 4 mp_on O C T so sc st m (upd v w (ob_nw (v w) k nl)) (fun c => if c = w then q else p c) loc → post lf (f1, nI m, f3, f4, f5, a1, a2, a3, a4, a5, a6, a7, O, C, T, so, sc, st, a14, a15, a16)) :
    ∀ r i, i + r = m → i ≤ i0 → wX_leafOf_43 post (nI nl) (nI w) (nI (3 * k)) (nI l) f1 (nI m) f3 f4 f5 (r + 1) x6 (nI i) a1 a2 a3 a4 a5 a6 a7 a8 a9 a10 a11 a12 a13 a14 a15 a16 := by
  have hm := ot_m hT
  intro r
  induction r with
  | zero =>
    intro i hi h0
    omega
  | succ r ih =>
    intro i hi h0
    have e1 : (nI i).toNatClampNeg = i := nI_clamp (by omega)
    have e2 : (nI w).toNatClampNeg = w := nI_clamp (by omega)
    refine pk_le m i (fun z => absurd z (by omega)) (fun z => ⟨pk_in i 4 (by omega), ?_⟩)
    by_cases e : i = i0
    · have hT' := ot_set (l := q) (x := ob_nw (v w) k nl) (by omega) hT hw hi0 hso
      refine br_t (by rw [e1, e]; exact hso) ⟨pk_in i 4 (by omega), nm_r (show a12 _ = v w by rw [e1, e]; exact hsc) (nm_r hlf (br_f (ot_n1 (by omega)) ⟨pk_in i 4 (by omega), nm_r (show upd a12 _ _ = upd a12 i0 (ob_nw (v w) k nl) by rw [e1, e]; rfl) ⟨pk_in w 4 hw, pk_in i 4 (by omega), nm_r (show upd a13 _ _ = upd a13 i0 (nI q) by rw [e1, e2, e, h14]) (nm_r (nI_1 i) ?_)⟩⟩))⟩
      refine mp_lfa hl (fun b hb => ?_) hT' hu H r (i + 1) (by omega) (by omega)
      by_cases eb : b = w
      · rw [if_pos eb]; exact hq
      · rw [if_neg eb]; exact hp b hb
    · refine br_f ?_ (nm_r (nI_1 i) (ih (i + 1) (by omega) (by omega)))
      rw [e1]
      intro z
      exact e (hu i (by omega) z)
theorem mp_leaf {post : Int32 → St2 → Prop} {lf : Int32} {b nl mm : Nat} (hb : b < 16) (hnl : nl < 8) (hT : ot_T 16 4 mp_on a8 a9 a10 a11 a12 a13 mm v p loc) (hw : ∀ w, w < 4 → p w < 4 ∧ a14 w = nI (p w)) (hlf : ob_f (v (b / 4)) (b % 4) = lf)
    (H : ∀ mm f3 O C T so sc st a14 p loc, ot_T 16 4 mp_on O C T so sc st mm (upd v (b / 4) (ob_nw (v (b / 4)) (b % 4) nl)) p loc → (∀ w, w < 4 → p w < 4 ∧ a14 w = nI (p w)) → post lf (f1, nI mm, f3, f4, f5, a1, a2, a3, a4, a5, a6, a7, O, C, T, so, sc, st, a14, a15, a16)) :
    wpX_leafOf post (f1, nI mm, f3, f4, f5, a1, a2, a3, a4, a5, a6, a7, a8, a9, a10, a11, a12, a13, a14, a15, a16) (nI b) (nI nl) := by
  have e3 : nI b >>> ((2 : Int32) &&& 31) = nI (b / 4) := pk_shrN (by omega) _ 2 (by decide)
  have e4 : 3 * (nI b &&& 3) = nI (3 * (b % 4)) := by
    rw [pk_andN (by omega) 2 (by decide)]
    exact pk_mul 3 (b % 4)
  have hb4 : b / 4 < 4 := by omega
  have e5 : (nI (b / 4)).toNatClampNeg = b / 4 := nI_clamp (by omega)
  have hq := hw (b / 4) hb4
  refine nm_r e3 (nm_r e4 ⟨pk_in (b / 4) 4 hb4, nm_r (show a14 _ = nI (p (b / 4)) by rw [e5]; exact hq.2) (om_nx3 (fun r x => ?_))⟩)
  obtain ⟨q, hq4, eq⟩ := pk_andE r (m := 3) 2 (by decide)
  refine ⟨pk_in (b / 4) 4 hb4, nm_r (show upd a14 _ _ = upd a14 (b / 4) (nI q) by rw [e5, eq]) (mp_read hq.1 hT (fun m O so sc st loc hT' hC => ?_))⟩
  obtain ⟨i0, g1, g2, g3, g4, g5⟩ := ot_find (by omega) hT' hb4 (fun s _ h => hC s h)
  refine ⟨m + 1, mp_lfb hq.1 hb4 hnl hq4 (fun b hb => (hw b hb).1) hT' g1 g2 g3 g5 pk_us hlf (fun m O C T so sc st loc hT'' => H m x O C T so sc st _ _ loc hT'' (fun w hw4 => ?_)) m 0 (by omega) (by omega)⟩
  by_cases e : w = b / 4
  · rw [if_pos e, e, pk_us]
    exact ⟨hq4, rfl⟩
  · rw [if_neg e, pk_un e]
    exact hw w hw4
theorem om_aca {post : Int32 → St2 → Prop} {x2 x3 x4 x6 : Int32} {l b m i0 : Nat} (hl : l < 8) (hp : ∀ b, b < 16 → p b < 8) (hT : ot_T 64 16 om_on a1 (om_D f4 a2 a4) a3 a5 a6 a7 m v p loc) (hC : ∀ s, om_on s l → a1 s = -1) (hu : ∀ j, j < m → a5 j = nI b → j = i0)
    (H : ∀ m f3 O C T V so sc st loc, ot_T 64 16 om_on O (om_D f4 C V) T so sc st m v p loc → post x6 (nI m, f2, f3, f4, f5, O, C, T, V, so, sc, st, a8, a9, a10, a11, a12, a13, a14, a15, a16)) :
    ∀ r i, i + r = m → i0 < i → wX_access_35 post (nI b) x2 x3 x4 (nI l) (nI m) f2 f3 f4 f5 (r + 1) x6 (nI i) a1 a2 a3 a4 a5 a6 a7 a8 a9 a10 a11 a12 a13 a14 a15 a16 := by
  have hm := ot_m hT
  intro r
  induction r with
  | zero =>
    intro i hi h0
    exact pk_le m i (fun _ => om_write hl hp hT hC H) (fun z => absurd z (by omega))
  | succ r ih =>
    intro i hi h0
    refine pk_le m i (fun z => absurd z (by omega)) (fun z => ⟨pk_in i 16 (by omega), br_f ?_ (nm_r (nI_1 i) (ih (i + 1) (by omega) (by omega)))⟩)
    rw [nI_clamp (show i < 2 ^ 31 by omega)]
    intro e
    have := hu i (by omega) e
    omega
theorem om_acb {post : Int32 → St2 → Prop} {c x y x6 : Int32} {l b nl m i0 : Nat} (hl : l < 8) (hb : b < 16) (hnl : nl < 8) (hp : ∀ b, b < 16 → p b < 8) (hT : ot_T 64 16 om_on a1 (om_D f4 a2 a4) a3 a5 a6 a7 m v p loc) (hC : ∀ s, om_on s l → a1 s = -1) (hi0 : i0 < m) (hso : a5 i0 = nI b) (hsc : a6 i0 = v b) (hu : ∀ j, j < m → a5 j = nI b → j = i0) (hy0 : c = 0 → y = v b) (hy1 : ¬ c = 0 → y = x)
    (H : ∀ m f3 O C T V so sc st loc, ot_T 64 16 om_on O (om_D f4 C V) T so sc st m (upd v b y) (fun c => if c = b then nl else p c) loc → post (v b) (nI m, f2, f3, f4, f5, O, C, T, V, so, sc, st, a8, a9, a10, a11, a12, a13, a14, a15, a16)) :
    ∀ r i, i + r = m → i ≤ i0 → wX_access_35 post (nI b) c x (nI nl) (nI l) (nI m) f2 f3 f4 f5 (r + 1) x6 (nI i) a1 a2 a3 a4 a5 a6 a7 a8 a9 a10 a11 a12 a13 a14 a15 a16 := by
  have hm := ot_m hT
  intro r
  induction r with
  | zero =>
    intro i hi h0
    omega
  | succ r ih =>
    intro i hi h0
    have e1 : (nI i).toNatClampNeg = i := nI_clamp (by omega)
    refine pk_le m i (fun z => absurd z (by omega)) (fun z => ⟨pk_in i 16 (by omega), ?_⟩)
    by_cases e : i = i0
    · have hT' := ot_set (l := nl) (x := y) (by omega) hT hb hi0 hso
      have hp' : ∀ b', b' < 16 → (fun c => if c = b then nl else p c) b' < 8 := by
        intro b' hb'
        dsimp only
        by_cases eb : b' = b
        · rw [if_pos eb]; exact hnl
        · rw [if_neg eb]; exact hp b' hb'
      refine br_t (by rw [e1, e]; exact hso) ⟨pk_in i 16 (by omega), nm_r (show a6 _ = v b by rw [e1, e]; exact hsc) (br_c (fun hc => ?_) (fun hc => ?_))⟩
      · exact ⟨pk_in i 16 (by omega), nm_r (show upd a6 _ _ = upd a6 i0 y by rw [e1, e, hy0 hc]) ⟨pk_in i 16 (by omega), nm_r (show upd a7 _ _ = upd a7 i0 (nI nl) by rw [e1, e]) (nm_r (nI_1 i) (om_aca hl hp' hT' hC hu H r (i + 1) (by omega) (by omega)))⟩⟩
      · exact ⟨pk_in i 16 (by omega), nm_r (show upd a6 _ _ = upd a6 i0 y by rw [e1, e, hy1 hc]) ⟨pk_in i 16 (by omega), nm_r (show upd a7 _ _ = upd a7 i0 (nI nl) by rw [e1, e]) (nm_r (nI_1 i) (om_aca hl hp' hT' hC hu H r (i + 1) (by omega) (by omega)))⟩⟩
    · refine br_f ?_ (nm_r (nI_1 i) (ih (i + 1) (by omega) (by omega)))
      rw [e1]
      intro z
      exact e (hu i (by omega) z)
end
/-- the whole object: it holds the sixteen values v, the snapshots sn, the scratch sc -/
def or_I (v sn sc : Nat → Int32) (u : St2) : Prop := match u with
  | (f1, f2, f3, f4, f5, a1, a2, a3, a4, a5, a6, a7, a8, a9, a10, a11, a12, a13, a14, a15, a16) => a15 = sn ∧ a16 = sc ∧ ∃ (m mm : Nat) (p : Nat → Nat) (W : Nat → Int32) (wl loc ml : Nat → Nat), f1 = nI m ∧ f2 = nI mm ∧ ot_T 64 16 om_on a1 (om_D f4 a2 a4) a3 a5 a6 a7 m v p loc ∧ ot_T 16 4 mp_on a8 a9 a10 a11 a12 a13 mm W wl ml ∧ (∀ b, b < 16 → p b < 8 ∧ ob_f (W (b / 4)) (b % 4) = nI (p b)) ∧ (∀ w, w < 4 → wl w < 4 ∧ a14 w = nI (wl w))
theorem or_v {v v' sn sc : Nat → Int32} {u : St2} (h : or_I v sn sc u) (hv : ∀ b, b < 16 → v' b = v b) : or_I v' sn sc u := by
  obtain ⟨f1, f2, f3, f4, f5, a1, a2, a3, a4, a5, a6, a7, a8, a9, a10, a11, a12, a13, a14, a15, a16⟩ := u
  obtain ⟨h15, h16, m, mm, p, W, wl, loc, ml, e1, e2, hT, hM, hp, hw⟩ := h
  exact ⟨h15, h16, m, mm, p, W, wl, loc, ml, e1, e2, ot_v hT hv, hM, hp, hw⟩
theorem or_access {post : Int32 → St2 → Prop} {v sn sc : Nat → Int32} {u : St2} {b : Nat} {c x y : Int32} (hb : b < 16) (h : or_I v sn sc u) (hy0 : c = 0 → y = v b) (hy1 : ¬ c = 0 → y = x) (H : ∀ u, or_I (upd v b y) sn sc u → post (v b) u) : wpX_access post u (nI b) c x := by
  obtain ⟨f1, f2, f3, f4, f5, a1, a2, a3, a4, a5, a6, a7, a8, a9, a10, a11, a12, a13, a14, a15, a16⟩ := u
  obtain ⟨h15, h16, m, mm, p, W, wl, loc, ml, e1, e2, hT, hM, hp, hw⟩ := h
  subst e1 e2 h15 h16
  unfold wpX_access
  refine om_nx (fun r rn => ?_)
  obtain ⟨nl, hnl, enl⟩ := pk_andE r (m := 7) 3 (by decide)
  refine nm_r enl (mp_leaf hb hnl hM hw (hp b hb).2 (fun mm f3 O C T so sc st a14 wl ml hM' hw' => ?_))
  refine om_read (hp b hb).1 hT (fun m f5 O so sc st loc hT' hC => ?_)
  obtain ⟨i0, g1, g2, g3, g4, g5⟩ := ot_find (by omega) hT' hb (fun s _ h => hC s h)
  refine ⟨m + 1, om_acb (hp b hb).1 hb hnl (fun b hb => (hp b hb).1) hT' hC g1 g2 g3 g5 hy0 hy1 (fun m f3 O C T V so sc st loc hT'' => H _ ⟨rfl, rfl, m, mm, _, _, wl, loc, ml, rfl, rfl, hT'', hM', fun d hd => ?_, hw'⟩) m 0 (by omega) (by omega)⟩
  by_cases e : d = b
  · rw [if_pos e, e, pk_us]
    refine ⟨hnl, ?_⟩
    unfold ob_nw
    rw [ob_set _ (ob_nl hnl) (by omega) (by omega), if_pos rfl]
  · rw [if_neg e]
    refine ⟨(hp d hd).1, ?_⟩
    by_cases e4 : d / 4 = b / 4
    · rw [e4, pk_us]
      unfold ob_nw
      rw [ob_set _ (ob_nl hnl) (by omega) (by omega), if_neg (by omega), ← e4]
      exact (hp d hd).2
    · rw [pk_un e4]
      exact (hp d hd).2
end
section
section
variable {f1 f2 f3 f4 f5 : Int32} {a1 a2 a3 a4 a5 a6 a7 a8 a9 a10 a11 a12 a13 a14 a15 a16 : Nat → Int32} {v : Nat → Int32} {p : Nat → Nat}
theorem mp_rd18_b {post : St2 → Prop} {J2 : Int32 → Int32 → (Nat → Int32) → (Nat → Int32) → (Nat → Int32) → (Nat → Int32) → (Nat → Int32) → (Nat → Int32) → (Nat → Int32) → (Nat → Int32) → (Nat → Int32) → (Nat → Int32) → (Nat → Int32) → (Nat → Int32) → (Nat → Int32) → (Nat → Int32) → (Nat → Int32) → (Nat → Int32) → Prop} {x1 : Int32} {l k : Nat} (hl : l < 4) (hk : k < 3)
    (H : ∀ m O so sc st loc, ot_T 16 4 mp_on O a9 a10 so sc st m v p loc → mp_C l (k + 1) O → J2 (nI (k + 1)) (nI m) a1 a2 a3 a4 a5 a6 a7 O a9 a10 so sc st a14 a15 a16) :
    ∀ r t, t + r = 2 → ∀ m O so sc st loc, ot_T 16 4 mp_on O a9 a10 so sc st m v p loc → mp_C l k O → (∀ s, 2 * mp_b l k ≤ s → s < 2 * mp_b l k + t → O s = -1) →
      wX_readMapPath_2_18 post J2 x1 (nI k) (nI (mp_b l k)) f1 f3 f4 f5 (r + 1) (nI (2 * mp_b l k + t)) (nI m) a1 a2 a3 a4 a5 a6 a7 O a9 a10 so sc st a14 a15 a16 := by
  have hb := mp_lt l hl k hk
  generalize hB : mp_b l k = B at *
  intro r
  induction r with
  | zero =>
    intro t ht m O so sc st loc hT hC hE
    refine pk_le (2 * B + 2) (2 * B + t) (fun _ => nm_r (nI_1 k) (H m O so sc st loc hT ?_)) (fun z => absurd z (by omega)) (ob_x22 B)
    intro j hj s hs
    by_cases e : j = k
    · rw [e, hB] at hs
      exact hE s (by omega) (by omega)
    · exact hC j (by omega) s hs
  | succ r ih =>
    intro t ht m O so sc st loc hT hC hE
    have hm := ot_m hT
    refine pk_le (2 * B + 2) (2 * B + t) (fun z => absurd z (by omega)) (fun _ => ⟨pk_in (2 * B + t) 16 (by omega), ?_⟩) (ob_x22 B)
    have e1 : (nI (2 * B + t)).toNatClampNeg = 2 * B + t := nI_clamp (by omega)
    have e2 : (nI m).toNatClampNeg = m := nI_clamp (by omega)
    refine br_c (fun hO => nm_r (nI_1 _) ?_) (fun hO => ?_)
    · rw [e1] at hO
      refine ih (t + 1) (by omega) m O so sc st loc hT hC (fun s h1 h2 => ?_)
      by_cases e : s = 2 * B + t
      · rw [e]; exact hO
      · exact hE s h1 (by omega)
    · rw [e1] at hO
      have hr := ot_room hT (show 2 * B + t < 16 by omega) hO
      obtain ⟨loc', hT'⟩ := ot_read (by omega) hT (show 2 * B + t < 16 by omega) hO
      refine pk_le 4 m (fun z => absurd z (by omega)) (fun _ => ⟨pk_in (2 * B + t) 16 (by omega), pk_in m 4 hr, nm_r (show upd so _ _ = upd so m (O (2 * B + t)) by rw [e1, e2]) ⟨pk_in (2 * B + t) 16 (by omega), pk_in m 4 hr, nm_r (show upd sc _ _ = upd sc m (a9 (2 * B + t)) by rw [e1, e2]) ⟨pk_in (2 * B + t) 16 (by omega), pk_in m 4 hr, nm_r (show upd st _ _ = upd st m (a10 (2 * B + t)) by rw [e1, e2]) ⟨pk_in (2 * B + t) 16 (by omega), nm_r (show upd O _ _ = upd O (2 * B + t) (-1) by rw [e1]) (nm_r (nI_1 m) (nm_r (nI_1 _) ?_))⟩⟩⟩⟩)
      refine ih (t + 1) (by omega) (m + 1) _ _ _ _ loc' hT' (fun j hj s hs => ?_) (fun s h1 h2 => ?_)
      · by_cases e : s = 2 * B + t
        · rw [e, pk_us]
        · rw [pk_un e]; exact hC j hj s hs
      · by_cases e : s = 2 * B + t
        · rw [e, pk_us]
        · rw [pk_un e]; exact hE s h1 (by omega)
theorem mp_rd2_b {post : St2 → Prop} {l : Nat} (hl : l < 4)
    (H : ∀ m O so sc st loc, ot_T 16 4 mp_on O a9 a10 so sc st m v p loc → (∀ s, mp_on s l → O s = -1) → post (f1, nI m, f3, f4, f5, a1, a2, a3, a4, a5, a6, a7, O, a9, a10, so, sc, st, a14, a15, a16)) :
    ∀ r k, k + r = 3 → ∀ m O so sc st loc, ot_T 16 4 mp_on O a9 a10 so sc st m v p loc → mp_C l k O →
      wX_readMapPath_2_2 post (nI l) f1 f3 f4 f5 (r + 1) (nI k) (nI m) a1 a2 a3 a4 a5 a6 a7 O a9 a10 so sc st a14 a15 a16 := by
  intro r
  induction r with
  | zero =>
    intro k hk m O so sc st loc hT hC
    refine pk_le 3 k (fun _ => H m O so sc st loc hT ?_) (fun z => absurd z (by omega))
    intro s hs
    obtain ⟨j, hj, ej⟩ := hs
    exact hC j (by omega) s ej
  | succ r ih =>
    intro k hk m O so sc st loc hT hC
    refine pk_le 3 k (fun z => absurd z (by omega)) (fun _ => ?_)
    unfold wpX_mapBucketAt
    rw [mp_bk l hl k (by omega)]
    refine nm_r (ob_x2 _) ⟨3, ?_⟩
    exact mp_rd18_b hl (by omega) (fun m O so sc st loc hT hC => ih (k + 1) (by omega) m O so sc st loc hT hC) 2 0 rfl m O so sc st loc hT hC (fun s h1 h2 => absurd h1 (by omega))
theorem mp_read_b {post : St2 → Prop} {l m : Nat} {loc : Nat → Nat} (hl : l < 4) (hT : ot_T 16 4 mp_on a8 a9 a10 a11 a12 a13 m v p loc)
    (H : ∀ m O so sc st loc, ot_T 16 4 mp_on O a9 a10 so sc st m v p loc → (∀ s, mp_on s l → O s = -1) → post (f1, nI m, f3, f4, f5, a1, a2, a3, a4, a5, a6, a7, O, a9, a10, so, sc, st, a14, a15, a16)) :
    wpX_readMapPath_2 post (f1, nI m, f3, f4, f5, a1, a2, a3, a4, a5, a6, a7, a8, a9, a10, a11, a12, a13, a14, a15, a16) (nI l) :=
  ⟨4, mp_rd2_b hl H 3 0 rfl m a8 a11 a12 a13 loc hT (fun j hj => absurd hj (by omega))⟩
theorem mp_wr17_b {post : St2 → Prop} {J2 : Int32 → Int32 → (Nat → Int32) → (Nat → Int32) → (Nat → Int32) → (Nat → Int32) → (Nat → Int32) → (Nat → Int32) → (Nat → Int32) → (Nat → Int32) → (Nat → Int32) → (Nat → Int32) → (Nat → Int32) → (Nat → Int32) → (Nat → Int32) → (Nat → Int32) → (Nat → Int32) → (Nat → Int32) → Prop} {l k : Nat} (hl : l < 4) (hk : k < 3) (hp : ∀ b, b < 4 → p b < 4)
    (H : ∀ m O C T so sc st loc, ot_T 16 4 mp_on O C T so sc st m v p loc → J2 (nI k + (-1)) (nI m) a1 a2 a3 a4 a5 a6 a7 O C T so sc st a14 a15 a16) :
    ∀ r t, t + r = 2 → ∀ m O C T so sc st loc, ot_T 16 4 mp_on O C T so sc st m v p loc →
      wX_writeMapPath_2_17 post J2 (nI l) (nI k) (nI (mp_b l k)) f1 f3 f4 f5 (r + 1) (nI (2 * mp_b l k + t)) (nI m) a1 a2 a3 a4 a5 a6 a7 O C T so sc st a14 a15 a16 := by
  have hb := mp_lt l hl k hk
  intro r
  induction r with
  | zero =>
    intro t ht m O C T so sc st loc hT
    exact pk_le (2 * mp_b l k + 2) (2 * mp_b l k + t) (fun _ => nm_e (H m O C T so sc st loc hT)) (fun z => absurd z (by omega)) (ob_x22 _)
  | succ r ih =>
    intro t ht m O C T so sc st loc hT
    have hm := ot_m hT
    refine pk_le (2 * mp_b l k + 2) (2 * mp_b l k + t) (fun z => absurd z (by omega)) (fun _ => ?_) (ob_x22 _)
    have hs : 2 * mp_b l k + t < 16 := by omega
    have e1 : (nI (2 * mp_b l k + t)).toNatClampNeg = 2 * mp_b l k + t := nI_clamp (by omega)
    refine mp_fit hm (fun i hi => ?_) hl hk ⟨pk_in _ 16 hs, br_c (fun hO => br_t rfl (nm_r (nI_1 _) (ih (t + 1) (by omega) m O C T so sc st loc hT))) (fun hO => nm_r (nI_1 _) (ih (t + 1) (by omega) m O C T so sc st loc hT))⟩ (fun i q hi hq eq hbk => ⟨pk_in _ 16 hs, br_c (fun hO => br_f (ot_n1 (by omega)) (nm_r (ob_pred (by omega)) ?_)) (fun hO => nm_r (nI_1 _) (ih (t + 1) (by omega) m O C T so sc st loc hT))⟩)
    · obtain ⟨b, hb, _, _, _, h3⟩ := ot_stash hT hi
      exact ⟨p b, hp b hb, h3⟩
    · rw [e1] at hO
      have e2 : (nI i).toNatClampNeg = i := nI_clamp (by omega)
      have e3 : (nI (m - 1)).toNatClampNeg = m - 1 := nI_clamp (by omega)
      have hi4 : i < 4 := by omega
      have hm4 : m - 1 < 4 := by omega
      obtain ⟨loc', hT'⟩ := ot_settle (by omega) hT (D' := upd C (2 * mp_b l k + t) (sc i)) hs hO hi (fun b hb e => ⟨k, hk, by
        rw [eq] at e
        have := hp b hb
        have e4 : q = p b := (nI_eq (by omega) (by omega)).mp e
        rw [← e4, hbk]
        omega⟩) pk_us (fun u hu _ => pk_un hu)
      refine ⟨pk_in i 4 hi4, pk_in _ 16 hs, nm_r (show upd O _ _ = upd O (2 * mp_b l k + t) (so i) by rw [e1, e2]) ⟨pk_in i 4 hi4, pk_in _ 16 hs, nm_r (show upd C _ _ = upd C (2 * mp_b l k + t) (sc i) by rw [e1, e2]) ⟨pk_in i 4 hi4, pk_in _ 16 hs, nm_r (show upd T _ _ = upd T (2 * mp_b l k + t) (st i) by rw [e1, e2]) ⟨pk_in _ 4 hm4, pk_in i 4 hi4, nm_r (show upd so _ _ = upd so i (so (m - 1)) by rw [e2, e3]) ⟨pk_in _ 4 hm4, pk_in i 4 hi4, nm_r (show upd sc _ _ = upd sc i (sc (m - 1)) by rw [e2, e3]) ⟨pk_in _ 4 hm4, pk_in i 4 hi4, nm_r (show upd st _ _ = upd st i (st (m - 1)) by rw [e2, e3]) (nm_r (nI_1 _) ?_)⟩⟩⟩⟩⟩⟩
      exact ih (t + 1) (by omega) (m - 1) _ _ _ _ _ _ loc' hT'
theorem mp_wr2_b {post : St2 → Prop} {l : Nat} (hl : l < 4) (hp : ∀ b, b < 4 → p b < 4)
    (H : ∀ m O C T so sc st loc, ot_T 16 4 mp_on O C T so sc st m v p loc → post (f1, nI m, f3, f4, f5, a1, a2, a3, a4, a5, a6, a7, O, C, T, so, sc, st, a14, a15, a16)) :
    ∀ k, k ≤ 3 → ∀ m O C T so sc st loc, ot_T 16 4 mp_on O C T so sc st m v p loc →
      wX_writeMapPath_2_2 post (nI l) f1 f3 f4 f5 (k + 1) (nI k + (-1)) (nI m) a1 a2 a3 a4 a5 a6 a7 O C T so sc st a14 a15 a16 := by
  intro k
  induction k with
  | zero =>
    intro hk m O C T so sc st loc hT
    exact br_t (by decide) (H m O C T so sc st loc hT)
  | succ k ih =>
    intro hk m O C T so sc st loc hT
    rw [pk_m1]
    refine br_f (nI_pos (by omega)) ?_
    unfold wpX_mapBucketAt
    rw [mp_bk l hl k (by omega)]
    refine nm_r (ob_x2 _) ⟨3, ?_⟩
    exact mp_wr17_b hl (by omega) hp (fun m O C T so sc st loc hT => ih (by omega) m O C T so sc st loc hT) 2 0 rfl m O C T so sc st loc hT
theorem mp_write_b {post : St2 → Prop} {l m : Nat} {loc : Nat → Nat} (hl : l < 4) (hp : ∀ b, b < 4 → p b < 4) (hT : ot_T 16 4 mp_on a8 a9 a10 a11 a12 a13 m v p loc)
    (H : ∀ m O C T so sc st loc, ot_T 16 4 mp_on O C T so sc st m v p loc → post (f1, nI m, f3, f4, f5, a1, a2, a3, a4, a5, a6, a7, O, C, T, so, sc, st, a14, a15, a16)) :
    wpX_writeMapPath_2 post (f1, nI m, f3, f4, f5, a1, a2, a3, a4, a5, a6, a7, a8, a9, a10, a11, a12, a13, a14, a15, a16) (nI l) :=
  ⟨4, mp_wr2_b hl hp H 3 (by omega) m a8 a9 a10 a11 a12 a13 loc hT⟩
end
section
variable {f1 f2 f3 f4 f5 : Int32} {a1 a2 a3 a4 a5 a6 a7 a8 a9 a10 a11 a12 a13 a14 a15 a16 : Nat → Int32} {v : Nat → Int32} {p : Nat → Nat}
theorem om_stl_b {post : St2 → Prop} {m i s : Nat} (hm : m ≤ 16) (hi : i < m) (hs : s < 64)
    (H : post (nI (m - 1), f2, f3, f4, f5, upd a1 s (a5 i), upd a2 s (a6 i ^^^ om_pad f4 (a4 (s / 4)) (nI s)), upd a3 s (a7 i), a4, upd a5 i (a5 (m - 1)), upd a6 i (a6 (m - 1)), upd a7 i (a7 (m - 1)), a8, a9, a10, a11, a12, a13, a14, a15, a16)) :
    wpX_settle_2 post (nI m, f2, f3, f4, f5, a1, a2, a3, a4, a5, a6, a7, a8, a9, a10, a11, a12, a13, a14, a15, a16) (nI i) (nI s) := by
  have e1 : (nI s).toNatClampNeg = s := nI_clamp (by omega)
  have e2 : (nI i).toNatClampNeg = i := nI_clamp (by omega)
  have e3 : (nI (m - 1)).toNatClampNeg = m - 1 := nI_clamp (by omega)
  have i16 : i < 16 := by omega
  have m16 : m - 1 < 16 := by omega
  refine ⟨pk_in i 16 i16, pk_in s 64 hs, nm_r (show upd a1 _ _ = upd a1 s (a5 i) by rw [e1, e2]) ⟨pk_in i 16 i16, om_pd hs ⟨pk_in s 64 hs, nm_r (show upd a2 _ _ = upd a2 s (a6 i ^^^ om_pad f4 (a4 (s / 4)) (nI s)) by rw [e1, e2]) ⟨pk_in i 16 i16, pk_in s 64 hs, nm_r (show upd a3 _ _ = upd a3 s (a7 i) by rw [e1, e2]) (nm_r (ob_pred (by omega)) ⟨pk_in _ 16 m16, pk_in i 16 i16, nm_r (show upd a5 _ _ = upd a5 i (a5 (m - 1)) by rw [e2, e3]) ⟨pk_in _ 16 m16, pk_in i 16 i16, nm_r (show upd a6 _ _ = upd a6 i (a6 (m - 1)) by rw [e2, e3]) ⟨pk_in _ 16 m16, pk_in i 16 i16, nm_r (show upd a7 _ _ = upd a7 i (a7 (m - 1)) by rw [e2, e3]) H⟩⟩⟩)⟩⟩⟩⟩
theorem om_rd28_b {post : St2 → Prop} {J2 : Int32 → Int32 → Int32 → (Nat → Int32) → (Nat → Int32) → (Nat → Int32) → (Nat → Int32) → (Nat → Int32) → (Nat → Int32) → (Nat → Int32) → (Nat → Int32) → (Nat → Int32) → (Nat → Int32) → (Nat → Int32) → (Nat → Int32) → (Nat → Int32) → (Nat → Int32) → (Nat → Int32) → (Nat → Int32) → Prop} {x1 : Int32} {l k : Nat} (hl : l < 8) (hk : k < 4)
    (H : ∀ m O so sc st loc, ot_T 64 16 om_on O (om_D f4 a2 a4) a3 so sc st m v p loc → om_C l (k + 1) O → J2 (nI (k + 1)) (nI m) f5 O a2 a3 a4 so sc st a8 a9 a10 a11 a12 a13 a14 a15 a16) :
    ∀ r t, t + r = 4 → ∀ m O so sc st loc, ot_T 64 16 om_on O (om_D f4 a2 a4) a3 so sc st m v p loc → om_C l k O → (∀ s, 4 * om_b l k ≤ s → s < 4 * om_b l k + t → O s = -1) →
      wX_readPath_2_28 post J2 x1 (nI k) (nI (om_b l k)) f2 f3 f4 f5 (r + 1) (nI (4 * om_b l k + t)) (nI m) O a2 a3 a4 so sc st a8 a9 a10 a11 a12 a13 a14 a15 a16 := by
  have hb := om_lt l hl k hk
  generalize hB : om_b l k = B at *
  intro r
  induction r with
  | zero =>
    intro t ht m O so sc st loc hT hC hE
    refine pk_le (4 * B + 4) (4 * B + t) (fun _ => nm_r (nI_1 k) (H m O so sc st loc hT ?_)) (fun z => absurd z (by omega)) (ob_x44 B)
    intro j hj s hs
    by_cases e : j = k
    · rw [e, hB] at hs
      exact hE s (by omega) (by omega)
    · exact hC j (by omega) s hs
  | succ r ih =>
    intro t ht m O so sc st loc hT hC hE
    have hm := ot_m hT
    have hs64 : 4 * B + t < 64 := by omega
    refine pk_le (4 * B + 4) (4 * B + t) (fun z => absurd z (by omega)) (fun _ => ⟨pk_in (4 * B + t) 64 hs64, ?_⟩) (ob_x44 B)
    have e1 : (nI (4 * B + t)).toNatClampNeg = 4 * B + t := nI_clamp (by omega)
    have e2 : (nI m).toNatClampNeg = m := nI_clamp (by omega)
    refine br_c (fun hO => nm_r (nI_1 _) ?_) (fun hO => ?_)
    · rw [e1] at hO
      refine ih (t + 1) (by omega) m O so sc st loc hT hC (fun s h1 h2 => ?_)
      by_cases e : s = 4 * B + t
      · rw [e]; exact hO
      · exact hE s h1 (by omega)
    · rw [e1] at hO
      have hr := ot_room hT hs64 hO
      obtain ⟨loc', hT'⟩ := ot_read (by omega) hT hs64 hO
      refine pk_le 16 m (fun z => absurd z (by omega)) (fun _ => ⟨pk_in (4 * B + t) 64 hs64, pk_in m 16 hr, nm_r (show upd so _ _ = upd so m (O (4 * B + t)) by rw [e1, e2]) ⟨pk_in (4 * B + t) 64 hs64, om_pd hs64 ⟨pk_in m 16 hr, nm_r (show upd sc _ _ = upd sc m (om_D f4 a2 a4 (4 * B + t)) by rw [e1, e2]; rfl) ⟨pk_in (4 * B + t) 64 hs64, pk_in m 16 hr, nm_r (show upd st _ _ = upd st m (a3 (4 * B + t)) by rw [e1, e2]) ⟨pk_in (4 * B + t) 64 hs64, nm_r (show upd O _ _ = upd O (4 * B + t) (-1) by rw [e1]) (nm_r (nI_1 m) (nm_r (nI_1 _) ?_))⟩⟩⟩⟩⟩)
      refine ih (t + 1) (by omega) (m + 1) _ _ _ _ loc' hT' (fun j hj s hs => ?_) (fun s h1 h2 => ?_)
      · by_cases e : s = 4 * B + t
        · rw [e, pk_us]
        · rw [pk_un e]; exact hC j hj s hs
      · by_cases e : s = 4 * B + t
        · rw [e, pk_us]
        · rw [pk_un e]; exact hE s h1 (by omega)
theorem om_rd2_b {post : St2 → Prop} {l : Nat} (hl : l < 8)
    (H : ∀ m f5 O so sc st loc, ot_T 64 16 om_on O (om_D f4 a2 a4) a3 so sc st m v p loc → (∀ s, om_on s l → O s = -1) → post (nI m, f2, f3, f4, f5, O, a2, a3, a4, so, sc, st, a8, a9, a10, a11, a12, a13, a14, a15, a16)) :
    ∀ r k, k + r = 4 → ∀ m f5 O so sc st loc, ot_T 64 16 om_on O (om_D f4 a2 a4) a3 so sc st m v p loc → om_C l k O →
      wX_readPath_2_2 post (nI l) f2 f3 f4 (r + 1) (nI k) (nI m) f5 O a2 a3 a4 so sc st a8 a9 a10 a11 a12 a13 a14 a15 a16 := by
  intro r
  induction r with
  | zero =>
    intro k hk m f5 O so sc st loc hT hC
    refine pk_le 4 k (fun _ => H m f5 O so sc st loc hT ?_) (fun z => absurd z (by omega))
    intro s hs
    obtain ⟨j, hj, ej⟩ := hs
    exact hC j (by omega) s ej
  | succ r ih =>
    intro k hk m f5 O so sc st loc hT hC
    refine pk_le 4 k (fun z => absurd z (by omega)) (fun _ => ?_)
    unfold wpX_bucketAt
    rw [om_bk l hl k (by omega)]
    refine nm_e (nm_r (ob_x4 _) ⟨5, ?_⟩)
    exact om_rd28_b hl (by omega) (fun m O so sc st loc hT hC => ih (k + 1) (by omega) m _ O so sc st loc hT hC) 4 0 rfl m O so sc st loc hT hC (fun s h1 h2 => absurd h1 (by omega))
theorem om_read_b {post : St2 → Prop} {l m : Nat} {loc : Nat → Nat} (hl : l < 8) (hT : ot_T 64 16 om_on a1 (om_D f4 a2 a4) a3 a5 a6 a7 m v p loc)
    (H : ∀ m f5 O so sc st loc, ot_T 64 16 om_on O (om_D f4 a2 a4) a3 so sc st m v p loc → (∀ s, om_on s l → O s = -1) → post (nI m, f2, f3, f4, f5, O, a2, a3, a4, so, sc, st, a8, a9, a10, a11, a12, a13, a14, a15, a16)) :
    wpX_readPath_2 post (nI m, f2, f3, f4, f5, a1, a2, a3, a4, a5, a6, a7, a8, a9, a10, a11, a12, a13, a14, a15, a16) (nI l) :=
  ⟨5, om_rd2_b hl H 4 0 rfl m f5 a1 a5 a6 a7 loc hT (fun j hj => absurd hj (by omega))⟩
theorem om_nx_b {post : Int32 → St2 → Prop} (H : ∀ r x, post r (f1, f2, x, f4, f5, a1, a2, a3, a4, a5, a6, a7, a8, a9, a10, a11, a12, a13, a14, a15, a16)) : wpX_next_4 post (f1, f2, f3, f4, f5, a1, a2, a3, a4, a5, a6, a7, a8, a9, a10, a11, a12, a13, a14, a15, a16) := nm_e (nm_e (nm_e (H _ _)))
theorem om_nx2_b {post : Int32 → St2 → Prop} (H : ∀ r x, post r (f1, f2, x, f4, f5, a1, a2, a3, a4, a5, a6, a7, a8, a9, a10, a11, a12, a13, a14, a15, a16)) : wpX_next_6 post (f1, f2, f3, f4, f5, a1, a2, a3, a4, a5, a6, a7, a8, a9, a10, a11, a12, a13, a14, a15, a16) := nm_e (nm_e (nm_e (H _ _)))
theorem om_nx3_b {post : Int32 → St2 → Prop} (H : ∀ r x, post r (f1, f2, x, f4, f5, a1, a2, a3, a4, a5, a6, a7, a8, a9, a10, a11, a12, a13, a14, a15, a16)) : wpX_next_5 post (f1, f2, f3, f4, f5, a1, a2, a3, a4, a5, a6, a7, a8, a9, a10, a11, a12, a13, a14, a15, a16) := nm_e (nm_e (nm_e (H _ _)))
theorem om_wr27_b {post : St2 → Prop} {J2 : Int32 → Int32 → Int32 → Int32 → Int32 → Int32 → (Nat → Int32) → (Nat → Int32) → (Nat → Int32) → (Nat → Int32) → (Nat → Int32) → (Nat → Int32) → (Nat → Int32) → (Nat → Int32) → (Nat → Int32) → (Nat → Int32) → (Nat → Int32) → (Nat → Int32) → (Nat → Int32) → (Nat → Int32) → (Nat → Int32) → (Nat → Int32) → Prop} {l k : Nat} (hl : l < 8) (hk : k < 4) (hp : ∀ b, b < 16 → p b < 8)
    (H : ∀ m f3 O C T so sc st loc, ot_T 64 16 om_on O (om_D f4 C a4) T so sc st m v p loc → om_C l k O → J2 (nI k + (-1)) (nI m) f2 f3 f4 f5 O C T a4 so sc st a8 a9 a10 a11 a12 a13 a14 a15 a16) :
    ∀ r t, t + r = 4 → ∀ m f3 O C T so sc st loc, ot_T 64 16 om_on O (om_D f4 C a4) T so sc st m v p loc → om_C l k O → (∀ s, 4 * om_b l k + t ≤ s → s < 4 * om_b l k + 4 → O s = -1) →
      wX_writePath_2_27 post J2 (nI l) (nI k) (nI (om_b l k)) (r + 1) (nI (4 * om_b l k + t)) (nI m) f2 f3 f4 f5 O C T a4 so sc st a8 a9 a10 a11 a12 a13 a14 a15 a16 := by
  have hb := om_lt l hl k hk
  intro r
  induction r with
  | zero =>
    intro t ht m f3 O C T so sc st loc hT hC hE
    exact pk_le (4 * om_b l k + 4) (4 * om_b l k + t) (fun _ => nm_e (H m f3 O C T so sc st loc hT hC)) (fun z => absurd z (by omega)) (ob_x44 _)
  | succ r ih =>
    intro t ht m f3 O C T so sc st loc hT hC hE
    have hm := ot_m hT
    refine pk_le (4 * om_b l k + 4) (4 * om_b l k + t) (fun z => absurd z (by omega)) (fun _ => ?_) (ob_x44 _)
    have hs : 4 * om_b l k + t < 64 := by omega
    have hO : O (4 * om_b l k + t) = -1 := hE _ (by omega) (by omega)
    have e1 : (nI (4 * om_b l k + t)).toNatClampNeg = 4 * om_b l k + t := nI_clamp (by omega)
    refine om_fit hm (fun i hi => ?_) hl hk (br_t rfl (om_nx2_b (fun r x => ⟨pk_in _ 64 hs, nm_r (show upd C _ _ = upd C (4 * om_b l k + t) r by rw [e1]) (nm_r (nI_1 _) (ih (t + 1) (by omega) m x O _ T so sc st loc ?_ hC (fun s h1 h2 => hE s (by omega) h2)))⟩))) (fun i q hi hq eq hbk => br_f (ot_n1 (by omega)) (om_stl_b hm hi hs (nm_r (nI_1 _) ?_)))
    · obtain ⟨b, hb, _, _, _, h3⟩ := ot_stash hT hi
      exact ⟨p b, hp b hb, h3⟩
    · refine ot_D (by omega) hT (fun s _ h => ?_)
      have hne : s ≠ 4 * om_b l k + t := fun e => h (by rw [e]; exact hO)
      show upd C _ _ s ^^^ _ = C s ^^^ _
      rw [pk_un hne]
    · obtain ⟨loc', hT'⟩ := ot_settle (by omega) hT (D' := om_D f4 (upd C (4 * om_b l k + t) (sc i ^^^ om_pad f4 (a4 ((4 * om_b l k + t) / 4)) (nI (4 * om_b l k + t)))) a4) hs hO hi (fun b hb e => ⟨k, hk, by
        rw [eq] at e
        have := hp b hb
        have e4 : q = p b := (nI_eq (by omega) (by omega)).mp e
        rw [← e4, hbk]
        omega⟩) (by
          show upd C _ _ _ ^^^ _ = _
          rw [pk_us, ob_xx]) (fun u hu _ => by
          show upd C _ _ _ ^^^ _ = C u ^^^ _
          rw [pk_un hu])
      refine ih (t + 1) (by omega) (m - 1) f3 _ _ _ _ _ _ loc' hT' (fun j hj s hs => ?_) (fun s h1 h2 => ?_)
      · have hne : s ≠ 4 * om_b l k + t := by
          intro e
          have := om_ne l hl k hk j hj
          omega
        rw [pk_un hne]
        exact hC j hj s hs
      · rw [pk_un (by omega)]
        exact hE s (by omega) h2
theorem om_wr2_b {post : St2 → Prop} {l : Nat} (hl : l < 8) (hp : ∀ b, b < 16 → p b < 8)
    (H : ∀ m f3 O C T V so sc st loc, ot_T 64 16 om_on O (om_D f4 C V) T so sc st m v p loc → post (nI m, f2, f3, f4, f5, O, C, T, V, so, sc, st, a8, a9, a10, a11, a12, a13, a14, a15, a16)) :
    ∀ k, k ≤ 4 → ∀ m f3 O C T V so sc st loc, ot_T 64 16 om_on O (om_D f4 C V) T so sc st m v p loc → om_C l k O →
      wX_writePath_2_2 post (nI l) (k + 1) (nI k + (-1)) (nI m) f2 f3 f4 f5 O C T V so sc st a8 a9 a10 a11 a12 a13 a14 a15 a16 := by
  intro k
  induction k with
  | zero =>
    intro hk m f3 O C T V so sc st loc hT hC
    exact br_t (by decide) (H m f3 O C T V so sc st loc hT)
  | succ k ih =>
    intro hk m f3 O C T V so sc st loc hT hC
    have hb := om_lt l hl k (by omega)
    rw [pk_m1]
    refine br_f (nI_pos (by omega)) ?_
    unfold wpX_bucketAt
    rw [om_bk l hl k (by omega)]
    refine ⟨pk_in _ 16 hb, pk_in _ 16 hb, nm_r (show upd V _ _ = upd V (om_b l k) (V (om_b l k) + 1) by rw [nI_clamp (show om_b l k < 2 ^ 31 by omega)]) (nm_r (ob_x4 _) ⟨5, ?_⟩)⟩
    refine om_wr27_b hl (by omega) hp (fun m f3 O C T so sc st loc hT hC => ih (by omega) m f3 O C T _ so sc st loc hT hC) 4 0 rfl m f3 O C T so sc st loc (ot_D (by omega) hT (fun s _ h => ?_)) (fun j hj => hC j (by omega)) (fun s h1 h2 => hC k (by omega) s (by omega))
    have hne : s / 4 ≠ om_b l k := fun e => h (hC k (by omega) s e)
    show C s ^^^ om_pad f4 (upd V _ _ (s / 4)) _ = C s ^^^ om_pad f4 (V (s / 4)) _
    rw [pk_un hne]
theorem om_write_b {post : St2 → Prop} {l m : Nat} {loc : Nat → Nat} (hl : l < 8) (hp : ∀ b, b < 16 → p b < 8) (hT : ot_T 64 16 om_on a1 (om_D f4 a2 a4) a3 a5 a6 a7 m v p loc) (hC : ∀ s, om_on s l → a1 s = -1)
    (H : ∀ m f3 O C T V so sc st loc, ot_T 64 16 om_on O (om_D f4 C V) T so sc st m v p loc → post (nI m, f2, f3, f4, f5, O, C, T, V, so, sc, st, a8, a9, a10, a11, a12, a13, a14, a15, a16)) :
    wpX_writePath_2 post (nI m, f2, f3, f4, f5, a1, a2, a3, a4, a5, a6, a7, a8, a9, a10, a11, a12, a13, a14, a15, a16) (nI l) :=
  ⟨5, om_wr2_b hl hp H 4 (by omega) m f3 a1 a2 a3 a4 a5 a6 a7 loc hT (fun j hj s hs => hC s ⟨j, hj, hs⟩)⟩
end
section
variable {f1 f2 f3 f4 f5 : Int32} {a1 a2 a3 a4 a5 a6 a7 a8 a9 a10 a11 a12 a13 a14 a15 a16 : Nat → Int32} {v : Nat → Int32} {p loc : Nat → Nat}
theorem mp_lfa_b {post : Int32 → St2 → Prop} {x2 x4 x6 : Int32} {l w m i0 : Nat} (hl : l < 4) (hp : ∀ b, b < 4 → p b < 4) (hT : ot_T 16 4 mp_on a8 a9 a10 a11 a12 a13 m v p loc) (hu : ∀ j, j < m → a11 j = nI w → j = i0)
    (H : ∀ m O C T so sc st loc, ot_T 16 4 mp_on O C T so sc st m v p loc → post x6 (f1, nI m, f3, f4, f5, a1, a2, a3, a4, a5, a6, a7, O, C, T, so, sc, st, a14, a15, a16)) :
    ∀ r i, i + r = m → i0 < i → wX_leafOf_2_43 post x2 (nI w) x4 (nI l) f1 (nI m) f3 f4 f5 (r + 1) x6 (nI i) a1 a2 a3 a4 a5 a6 a7 a8 a9 a10 a11 a12 a13 a14 a15 a16 := by
  have hm := ot_m hT
  intro r
  induction r with
  | zero =>
    intro i hi h0
    exact pk_le m i (fun _ => mp_write_b hl hp hT H) (fun z => absurd z (by omega))
  | succ r ih =>
    intro i hi h0
    refine pk_le m i (fun z => absurd z (by omega)) (fun z => ⟨pk_in i 4 (by omega), br_f ?_ (nm_r (nI_1 i) (ih (i + 1) (by omega) (by omega)))⟩)
    rw [nI_clamp (show i < 2 ^ 31 by omega)]
    intro e
    have := hu i (by omega) e
    omega
theorem mp_lfb_b {post : Int32 → St2 → Prop} {x6 lf : Int32} {l w k nl q m i0 : Nat} (hl : l < 4) (hw : w < 4) (hnl : nl < 8) (hq : q < 4) (hp : ∀ b, b < 4 → p b < 4) (hT : ot_T 16 4 mp_on a8 a9 a10 a11 a12 a13 m v p loc) (hi0 : i0 < m) (hso : a11 i0 = nI w) (hsc : a12 i0 = v w) (hu : ∀ j, j < m → a11 j = nI w → j = i0) (h14 : a14 w = nI q) (hlf : ob_f (v w) k = lf)
    (H : ∀ m O C T so sc st loc, ot_T 16 4 mp_on O C T so sc st m (upd v w (ob_nw (v w) k nl)) (fun c => if c = w then q else p c) loc → post lf (f1, nI m, f3, f4, f5, a1, a2, a3, a4, a5, a6, a7, O, C, T, so, sc, st, a14, a15, a16)) :
    ∀ r i, i + r = m → i ≤ i0 → wX_leafOf_2_43 post (nI nl) (nI w) (nI (3 * k)) (nI l) f1 (nI m) f3 f4 f5 (r + 1) x6 (nI i) a1 a2 a3 a4 a5 a6 a7 a8 a9 a10 a11 a12 a13 a14 a15 a16 := by
  have hm := ot_m hT
  intro r
  induction r with
  | zero =>
    intro i hi h0
    omega
  | succ r ih =>
    intro i hi h0
    have e1 : (nI i).toNatClampNeg = i := nI_clamp (by omega)
    have e2 : (nI w).toNatClampNeg = w := nI_clamp (by omega)
    refine pk_le m i (fun z => absurd z (by omega)) (fun z => ⟨pk_in i 4 (by omega), ?_⟩)
    by_cases e : i = i0
    · have hT' := ot_set (l := q) (x := ob_nw (v w) k nl) (by omega) hT hw hi0 hso
      refine br_t (by rw [e1, e]; exact hso) ⟨pk_in i 4 (by omega), nm_r (show a12 _ = v w by rw [e1, e]; exact hsc) (nm_r hlf (br_f (ot_n1 (by omega)) ⟨pk_in i 4 (by omega), nm_r (show upd a12 _ _ = upd a12 i0 (ob_nw (v w) k nl) by rw [e1, e]; rfl) ⟨pk_in w 4 hw, pk_in i 4 (by omega), nm_r (show upd a13 _ _ = upd a13 i0 (nI q) by rw [e1, e2, e, h14]) (nm_r (nI_1 i) ?_)⟩⟩))⟩
      refine mp_lfa_b hl (fun b hb => ?_) hT' hu H r (i + 1) (by omega) (by omega)
      by_cases eb : b = w
      · rw [if_pos eb]; exact hq
      · rw [if_neg eb]; exact hp b hb
    · refine br_f ?_ (nm_r (nI_1 i) (ih (i + 1) (by omega) (by omega)))
      rw [e1]
      intro z
      exact e (hu i (by omega) z)
theorem mp_leaf_b {post : Int32 → St2 → Prop} {lf : Int32} {b nl mm : Nat} (hb : b < 16) (hnl : nl < 8) (hT : ot_T 16 4 mp_on a8 a9 a10 a11 a12 a13 mm v p loc) (hw : ∀ w, w < 4 → p w < 4 ∧ a14 w = nI (p w)) (hlf : ob_f (v (b / 4)) (b % 4) = lf)
    (H : ∀ mm f3 O C T so sc st a14 p loc, ot_T 16 4 mp_on O C T so sc st mm (upd v (b / 4) (ob_nw (v (b / 4)) (b % 4) nl)) p loc → (∀ w, w < 4 → p w < 4 ∧ a14 w = nI (p w)) → post lf (f1, nI mm, f3, f4, f5, a1, a2, a3, a4, a5, a6, a7, O, C, T, so, sc, st, a14, a15, a16)) :
    wpX_leafOf_2 post (f1, nI mm, f3, f4, f5, a1, a2, a3, a4, a5, a6, a7, a8, a9, a10, a11, a12, a13, a14, a15, a16) (nI b) (nI nl) := by
  have e3 : nI b >>> ((2 : Int32) &&& 31) = nI (b / 4) := pk_shrN (by omega) _ 2 (by decide)
  have e4 : 3 * (nI b &&& 3) = nI (3 * (b % 4)) := by
    rw [pk_andN (by omega) 2 (by decide)]
    exact pk_mul 3 (b % 4)
  have hb4 : b / 4 < 4 := by omega
  have e5 : (nI (b / 4)).toNatClampNeg = b / 4 := nI_clamp (by omega)
  have hq := hw (b / 4) hb4
  refine nm_r e3 (nm_r e4 ⟨pk_in (b / 4) 4 hb4, nm_r (show a14 _ = nI (p (b / 4)) by rw [e5]; exact hq.2) (om_nx3_b (fun r x => ?_))⟩)
  obtain ⟨q, hq4, eq⟩ := pk_andE r (m := 3) 2 (by decide)
  refine ⟨pk_in (b / 4) 4 hb4, nm_r (show upd a14 _ _ = upd a14 (b / 4) (nI q) by rw [e5, eq]) (mp_read_b hq.1 hT (fun m O so sc st loc hT' hC => ?_))⟩
  obtain ⟨i0, g1, g2, g3, g4, g5⟩ := ot_find (by omega) hT' hb4 (fun s _ h => hC s h)
  refine ⟨m + 1, mp_lfb_b hq.1 hb4 hnl hq4 (fun b hb => (hw b hb).1) hT' g1 g2 g3 g5 pk_us hlf (fun m O C T so sc st loc hT'' => H m x O C T so sc st _ _ loc hT'' (fun w hw4 => ?_)) m 0 (by omega) (by omega)⟩
  by_cases e : w = b / 4
  · rw [if_pos e, e, pk_us]
    exact ⟨hq4, rfl⟩
  · rw [if_neg e, pk_un e]
    exact hw w hw4
theorem om_aca_b {post : Int32 → St2 → Prop} {x2 x3 x4 x6 : Int32} {l b m i0 : Nat} (hl : l < 8) (hp : ∀ b, b < 16 → p b < 8) (hT : ot_T 64 16 om_on a1 (om_D f4 a2 a4) a3 a5 a6 a7 m v p loc) (hC : ∀ s, om_on s l → a1 s = -1) (hu : ∀ j, j < m → a5 j = nI b → j = i0)
    (H : ∀ m f3 O C T V so sc st loc, ot_T 64 16 om_on O (om_D f4 C V) T so sc st m v p loc → post x6 (nI m, f2, f3, f4, f5, O, C, T, V, so, sc, st, a8, a9, a10, a11, a12, a13, a14, a15, a16)) :
    ∀ r i, i + r = m → i0 < i → wX_access_2_35 post (nI b) x2 x3 x4 (nI l) (nI m) f2 f3 f4 f5 (r + 1) x6 (nI i) a1 a2 a3 a4 a5 a6 a7 a8 a9 a10 a11 a12 a13 a14 a15 a16 := by
  have hm := ot_m hT
  intro r
  induction r with
  | zero =>
    intro i hi h0
    exact pk_le m i (fun _ => om_write_b hl hp hT hC H) (fun z => absurd z (by omega))
  | succ r ih =>
    intro i hi h0
    refine pk_le m i (fun z => absurd z (by omega)) (fun z => ⟨pk_in i 16 (by omega), br_f ?_ (nm_r (nI_1 i) (ih (i + 1) (by omega) (by omega)))⟩)
    rw [nI_clamp (show i < 2 ^ 31 by omega)]
    intro e
    have := hu i (by omega) e
    omega
theorem om_acb_b {post : Int32 → St2 → Prop} {c x y x6 : Int32} {l b nl m i0 : Nat} (hl : l < 8) (hb : b < 16) (hnl : nl < 8) (hp : ∀ b, b < 16 → p b < 8) (hT : ot_T 64 16 om_on a1 (om_D f4 a2 a4) a3 a5 a6 a7 m v p loc) (hC : ∀ s, om_on s l → a1 s = -1) (hi0 : i0 < m) (hso : a5 i0 = nI b) (hsc : a6 i0 = v b) (hu : ∀ j, j < m → a5 j = nI b → j = i0) (hy0 : c = 0 → y = v b) (hy1 : ¬ c = 0 → y = x)
    (H : ∀ m f3 O C T V so sc st loc, ot_T 64 16 om_on O (om_D f4 C V) T so sc st m (upd v b y) (fun c => if c = b then nl else p c) loc → post (v b) (nI m, f2, f3, f4, f5, O, C, T, V, so, sc, st, a8, a9, a10, a11, a12, a13, a14, a15, a16)) :
    ∀ r i, i + r = m → i ≤ i0 → wX_access_2_35 post (nI b) c x (nI nl) (nI l) (nI m) f2 f3 f4 f5 (r + 1) x6 (nI i) a1 a2 a3 a4 a5 a6 a7 a8 a9 a10 a11 a12 a13 a14 a15 a16 := by
  have hm := ot_m hT
  intro r
  induction r with
  | zero =>
    intro i hi h0
    omega
  | succ r ih =>
    intro i hi h0
    have e1 : (nI i).toNatClampNeg = i := nI_clamp (by omega)
    refine pk_le m i (fun z => absurd z (by omega)) (fun z => ⟨pk_in i 16 (by omega), ?_⟩)
    by_cases e : i = i0
    · have hT' := ot_set (l := nl) (x := y) (by omega) hT hb hi0 hso
      have hp' : ∀ b', b' < 16 → (fun c => if c = b then nl else p c) b' < 8 := by
        intro b' hb'
        dsimp only
        by_cases eb : b' = b
        · rw [if_pos eb]; exact hnl
        · rw [if_neg eb]; exact hp b' hb'
      refine br_t (by rw [e1, e]; exact hso) ⟨pk_in i 16 (by omega), nm_r (show a6 _ = v b by rw [e1, e]; exact hsc) (br_c (fun hc => ?_) (fun hc => ?_))⟩
      · exact ⟨pk_in i 16 (by omega), nm_r (show upd a6 _ _ = upd a6 i0 y by rw [e1, e, hy0 hc]) ⟨pk_in i 16 (by omega), nm_r (show upd a7 _ _ = upd a7 i0 (nI nl) by rw [e1, e]) (nm_r (nI_1 i) (om_aca_b hl hp' hT' hC hu H r (i + 1) (by omega) (by omega)))⟩⟩
      · exact ⟨pk_in i 16 (by omega), nm_r (show upd a6 _ _ = upd a6 i0 y by rw [e1, e, hy1 hc]) ⟨pk_in i 16 (by omega), nm_r (show upd a7 _ _ = upd a7 i0 (nI nl) by rw [e1, e]) (nm_r (nI_1 i) (om_aca_b hl hp' hT' hC hu H r (i + 1) (by omega) (by omega)))⟩⟩
    · refine br_f ?_ (nm_r (nI_1 i) (ih (i + 1) (by omega) (by omega)))
      rw [e1]
      intro z
      exact e (hu i (by omega) z)
end
theorem or_access_b {post : Int32 → St2 → Prop} {v sn sc : Nat → Int32} {u : St2} {b : Nat} {c x y : Int32} (hb : b < 16) (h : or_I v sn sc u) (hy0 : c = 0 → y = v b) (hy1 : ¬ c = 0 → y = x) (H : ∀ u, or_I (upd v b y) sn sc u → post (v b) u) : wpX_access_2 post u (nI b) c x := by
  obtain ⟨f1, f2, f3, f4, f5, a1, a2, a3, a4, a5, a6, a7, a8, a9, a10, a11, a12, a13, a14, a15, a16⟩ := u
  obtain ⟨h15, h16, m, mm, p, W, wl, loc, ml, e1, e2, hT, hM, hp, hw⟩ := h
  subst e1 e2 h15 h16
  unfold wpX_access_2
  refine om_nx_b (fun r rn => ?_)
  obtain ⟨nl, hnl, enl⟩ := pk_andE r (m := 7) 3 (by decide)
  refine nm_r enl (mp_leaf_b hb hnl hM hw (hp b hb).2 (fun mm f3 O C T so sc st a14 wl ml hM' hw' => ?_))
  refine om_read_b (hp b hb).1 hT (fun m f5 O so sc st loc hT' hC => ?_)
  obtain ⟨i0, g1, g2, g3, g4, g5⟩ := ot_find (by omega) hT' hb (fun s _ h => hC s h)
  refine ⟨m + 1, om_acb_b (hp b hb).1 hb hnl (fun b hb => (hp b hb).1) hT' hC g1 g2 g3 g5 hy0 hy1 (fun m f3 O C T V so sc st loc hT'' => H _ ⟨rfl, rfl, m, mm, _, _, wl, loc, ml, rfl, rfl, hT'', hM', fun d hd => ?_, hw'⟩) m 0 (by omega) (by omega)⟩
  by_cases e : d = b
  · rw [if_pos e, e, pk_us]
    refine ⟨hnl, ?_⟩
    unfold ob_nw
    rw [ob_set _ (ob_nl hnl) (by omega) (by omega), if_pos rfl]
  · rw [if_neg e]
    refine ⟨(hp d hd).1, ?_⟩
    by_cases e4 : d / 4 = b / 4
    · rw [e4, pk_us]
      unfold ob_nw
      rw [ob_set _ (ob_nl hnl) (by omega) (by omega), if_neg (by omega), ← e4]
      exact (hp d hd).2
    · rw [pk_un e4]
      exact (hp d hd).2
end
section
section
variable {v sn sc : Nat → Int32} {u : St2} {f1 f2 f3 f4 f5 : Int32} {a1 a2 a3 a4 a5 a6 a7 a8 a9 a10 a11 a12 a13 a14 a15 a16 : Nat → Int32}
theorem or_rep {g3 g5 : Int32} {sn' sc' : Nat → Int32} (h : or_I v sn sc (f1, f2, f3, f4, f5, a1, a2, a3, a4, a5, a6, a7, a8, a9, a10, a11, a12, a13, a14, a15, a16)) : or_I v sn' sc' (f1, f2, g3, f4, g5, a1, a2, a3, a4, a5, a6, a7, a8, a9, a10, a11, a12, a13, a14, sn', sc') := by
  obtain ⟨h15, h16, h⟩ := h
  exact ⟨rfl, rfl, h⟩
theorem or_15 (h : or_I v sn sc (f1, f2, f3, f4, f5, a1, a2, a3, a4, a5, a6, a7, a8, a9, a10, a11, a12, a13, a14, a15, a16)) : a15 = sn := h.1
theorem or_16 (h : or_I v sn sc (f1, f2, f3, f4, f5, a1, a2, a3, a4, a5, a6, a7, a8, a9, a10, a11, a12, a13, a14, a15, a16)) : a16 = sc := h.2.1
theorem or_ga2 {post : St2 → Prop} (H : ∀ sc u, (∀ k, k < 16 → sc k = v k) → or_I v sn sc u → post u) :
    ∀ r k, k + r = 16 → ∀ (sc : Nat → Int32) (f1 f2 f3 f4 f5 : Int32) (a1 a2 a3 a4 a5 a6 a7 a8 a9 a10 a11 a12 a13 a14 a15 a16 : Nat → Int32), (∀ j, j < k → sc j = v j) → or_I v sn sc (f1, f2, f3, f4, f5, a1, a2, a3, a4, a5, a6, a7, a8, a9, a10, a11, a12, a13, a14, a15, a16) → wX_gather_2 post (r + 1) (nI k) f1 f2 f3 f4 f5 a1 a2 a3 a4 a5 a6 a7 a8 a9 a10 a11 a12 a13 a14 a15 a16 := by
  intro r
  induction r with
  | zero =>
    intro k hk sc f1 f2 f3 f4 f5 a1 a2 a3 a4 a5 a6 a7 a8 a9 a10 a11 a12 a13 a14 a15 a16 hs h
    exact pk_le 16 k (fun _ => H sc _ (fun j hj => hs j (by omega)) h) (fun z => absurd z (by omega))
  | succ r ih =>
    intro k hk sc f1 f2 f3 f4 f5 a1 a2 a3 a4 a5 a6 a7 a8 a9 a10 a11 a12 a13 a14 a15 a16 hs h
    refine pk_le 16 k (fun z => absurd z (by omega)) (fun _ => or_access_b (y := v k) (by omega) h (fun _ => rfl) (fun z => absurd rfl z) (fun u hu => ?_))
    obtain ⟨f1, f2, f3, f4, f5, a1, a2, a3, a4, a5, a6, a7, a8, a9, a10, a11, a12, a13, a14, a15, a16⟩ := u
    refine ⟨pk_in k 16 (by omega), nm_r (show upd a16 _ _ = upd sc k (v k) by rw [nI_clamp (show k < 2 ^ 31 by omega), or_16 hu]) (nm_r (nI_1 k) (ih (k + 1) (by omega) (upd sc k (v k)) _ _ _ _ _ _ _ _ _ _ _ _ _ _ _ _ _ _ _ _ _ (fun j hj => ?_) ?_))⟩
    · by_cases e : j = k
      · rw [e, pk_us]
      · rw [pk_un e]; exact hs j (by omega)
    · have hu' : or_I v sn sc (f1, f2, f3, f4, f5, a1, a2, a3, a4, a5, a6, a7, a8, a9, a10, a11, a12, a13, a14, a15, a16) := or_v hu (fun b _ => by
        by_cases e : b = k
        · rw [e, pk_us]
        · rw [pk_un e])
      have e15 := or_15 hu
      subst e15
      exact or_rep hu'
theorem or_gather {post : St2 → Prop} (h : or_I v sn sc u) (H : ∀ sc u, (∀ k, k < 16 → sc k = v k) → or_I v sn sc u → post u) : wpX_gather post u := by
  obtain ⟨f1, f2, f3, f4, f5, a1, a2, a3, a4, a5, a6, a7, a8, a9, a10, a11, a12, a13, a14, a15, a16⟩ := u
  exact ⟨17, or_ga2 H 16 0 rfl sc _ _ _ _ _ _ _ _ _ _ _ _ _ _ _ _ _ _ _ _ _ (fun j hj => absurd hj (by omega)) h⟩
/-- the sum of the first n -/
def or_S (f : Nat → Int32) : Nat → Int32
  | 0 => 0
  | n + 1 => or_S f n + f n
theorem or_sm8 {post : Int32 → St2 → Prop} (hs : ∀ k, k < 16 → a16 k = v k) (H : post (or_S v 16) (f1, f2, f3, f4, f5, a1, a2, a3, a4, a5, a6, a7, a8, a9, a10, a11, a12, a13, a14, a15, a16)) :
    ∀ r k, k + r = 16 → wX_sum_8 post f1 f2 f3 f4 f5 a1 a2 a3 a4 a5 a6 a7 a8 a9 a10 a11 a12 a13 a14 a15 a16 (r + 1) (or_S v k) (nI k) := by
  intro r
  induction r with
  | zero =>
    intro k hk
    have e : k = 16 := by omega
    subst e
    exact pk_le 16 16 (fun _ => H) (fun z => absurd z (by omega))
  | succ r ih =>
    intro k hk
    exact pk_le 16 k (fun z => absurd z (by omega)) (fun _ => ⟨pk_in k 16 (by omega), nm_r (show or_S v k + a16 _ = or_S v (k + 1) by rw [nI_clamp (show k < 2 ^ 31 by omega), hs k (by omega)]; rfl) (nm_r (nI_1 k) (ih (k + 1) (by omega)))⟩)
theorem or_sum {post : Int32 → St2 → Prop} (h : or_I v sn sc u) (H : ∀ sc u, or_I v sn sc u → post (or_S v 16) u) : wpX_sum post u := by
  obtain ⟨f1, f2, f3, f4, f5, a1, a2, a3, a4, a5, a6, a7, a8, a9, a10, a11, a12, a13, a14, a15, a16⟩ := u
  unfold wpX_sum
  refine or_gather h (fun sc u hs hu => ?_)
  obtain ⟨f1, f2, f3, f4, f5, a1, a2, a3, a4, a5, a6, a7, a8, a9, a10, a11, a12, a13, a14, a15, a16⟩ := u
  exact ⟨17, or_sm8 (fun k hk => by rw [or_16 hu]; exact hs k hk) (H _ _ hu) 16 0 rfl⟩
theorem or_sv17 {post : Int32 → St2 → Prop} (hs : ∀ k, k < 16 → a16 k = v k) (H : ∀ a15, (∀ k, k < 16 → a15 (16 + k) = v k) → post 0 (f1, f2, f3, f4, f5, a1, a2, a3, a4, a5, a6, a7, a8, a9, a10, a11, a12, a13, a14, a15, a16)) :
    ∀ r k, k + r = 16 → ∀ a15, (∀ j, j < k → a15 (16 + j) = v j) → wX_save_17 post 1 f1 f2 f3 f4 f5 (r + 1) (nI k) a1 a2 a3 a4 a5 a6 a7 a8 a9 a10 a11 a12 a13 a14 a15 a16 := by
  intro r
  induction r with
  | zero =>
    intro k hk a15 h15
    exact pk_le 16 k (fun _ => H a15 (fun j hj => h15 j (by omega))) (fun z => absurd z (by omega))
  | succ r ih =>
    intro k hk a15 h15
    have e : (16 * 1 : Int32) + nI k = nI (16 + k) := nI_add 16 k
    refine pk_le 16 k (fun z => absurd z (by omega)) (fun _ => ⟨pk_in k 16 (by omega), pk_in (16 + k) 32 (by omega) e, nm_r (show upd a15 _ _ = upd a15 (16 + k) (v k) by rw [e, nI_clamp (show k < 2 ^ 31 by omega), nI_clamp (show 16 + k < 2 ^ 31 by omega), hs k (by omega)]) (nm_r (nI_1 k) (ih (k + 1) (by omega) _ (fun j hj => ?_)))⟩)
    by_cases ej : j = k
    · rw [ej, pk_us]
    · rw [pk_un (by omega)]
      exact h15 j (by omega)
theorem or_save {post : Int32 → St2 → Prop} (h : or_I v sn sc u) (H : ∀ sn sc u, (∀ k, k < 16 → sn (16 + k) = v k) → or_I v sn sc u → post 0 u) : wpX_save post u 1 := by
  obtain ⟨f1, f2, f3, f4, f5, a1, a2, a3, a4, a5, a6, a7, a8, a9, a10, a11, a12, a13, a14, a15, a16⟩ := u
  refine br_f (by decide) (br_t rfl ?_)
  unfold wX_save_11
  refine or_gather h (fun sc u hs hu => ?_)
  obtain ⟨f1, f2, f3, f4, f5, a1, a2, a3, a4, a5, a6, a7, a8, a9, a10, a11, a12, a13, a14, a15, a16⟩ := u
  exact ⟨17, or_sv17 (fun k hk => by rw [or_16 hu]; exact hs k hk) (fun a15 h15 => H a15 a16 _ h15 (or_rep hu)) 16 0 rfl a15 (fun j hj => absurd hj (by omega))⟩
theorem or_stir {post : St2 → Prop} {x : Int32} (h : or_I v sn sc u) (H : ∀ u, or_I v sn sc u → post u) : wpX_stir post u x := by
  obtain ⟨f1, f2, f3, f4, f5, a1, a2, a3, a4, a5, a6, a7, a8, a9, a10, a11, a12, a13, a14, a15, a16⟩ := u
  have e15 := or_15 h
  have e16 := or_16 h
  subst e15 e16
  exact br_c (fun _ => H _ (or_rep h)) (fun _ => H _ (or_rep h))
/-- a shift, as the rotation sees it -/
def or_t (x : Int32) : Nat := x.toBitVec.toNat % 16
theorem or_rt (x : Int32) (k : Nat) (hk : k < 16) : (nI k + x) &&& 15 = nI ((k + or_t x) % 16) := by
  rw [pk_and (nI k + x) 4 (by decide)]
  rw [Int32.toBitVec_add, BitVec.toNat_add, pk_tn (show k < 2 ^ 32 by omega)]
  unfold or_t
  congr 1
  omega
theorem or_ro6 {post : Int32 → St2 → Prop} {x : Int32} (hs : ∀ k, k < 16 → sc k = v k) (H : ∀ u, or_I (fun j => v ((j + or_t x) % 16)) sn sc u → post 0 u) :
    ∀ r k, k + r = 16 → ∀ (f1 f2 f3 f4 f5 : Int32) (a1 a2 a3 a4 a5 a6 a7 a8 a9 a10 a11 a12 a13 a14 a15 a16 : Nat → Int32), or_I (fun j => if j < k then v ((j + or_t x) % 16) else v j) sn sc (f1, f2, f3, f4, f5, a1, a2, a3, a4, a5, a6, a7, a8, a9, a10, a11, a12, a13, a14, a15, a16) → wX_rotate_6 post x (r + 1) (nI k) f1 f2 f3 f4 f5 a1 a2 a3 a4 a5 a6 a7 a8 a9 a10 a11 a12 a13 a14 a15 a16 := by
  intro r
  induction r with
  | zero =>
    intro k hk f1 f2 f3 f4 f5 a1 a2 a3 a4 a5 a6 a7 a8 a9 a10 a11 a12 a13 a14 a15 a16 h
    exact pk_le 16 k (fun _ => H _ (or_v h (fun b hb => by rw [if_pos (by omega)]))) (fun z => absurd z (by omega))
  | succ r ih =>
    intro k hk f1 f2 f3 f4 f5 a1 a2 a3 a4 a5 a6 a7 a8 a9 a10 a11 a12 a13 a14 a15 a16 h
    have ek := or_rt x k (by omega)
    have hm : (k + or_t x) % 16 < 16 := by omega
    refine pk_le 16 k (fun z => absurd z (by omega)) (fun _ => ⟨pk_in _ 16 hm ek, or_access (y := v ((k + or_t x) % 16)) (by omega) h (fun z => absurd z (by decide)) (fun _ => ?_) (fun u hu => ?_)⟩)
    · rw [ek, nI_clamp (show (k + or_t x) % 16 < 2 ^ 31 by omega), or_16 h, hs _ hm]
    · obtain ⟨f1, f2, f3, f4, f5, a1, a2, a3, a4, a5, a6, a7, a8, a9, a10, a11, a12, a13, a14, a15, a16⟩ := u
      refine nm_r (nI_1 k) (ih (k + 1) (by omega) _ _ _ _ _ _ _ _ _ _ _ _ _ _ _ _ _ _ _ _ _ (or_v hu (fun b hb => ?_)))
      by_cases e : b = k
      · rw [e, pk_us, if_pos (by omega)]
      · rw [pk_un e]
        by_cases e2 : b < k
        · rw [if_pos (by omega), if_pos e2]
        · rw [if_neg (by omega), if_neg e2]
theorem or_rotate {post : Int32 → St2 → Prop} {x : Int32} (h : or_I v sn sc u) (H : ∀ sc u, or_I (fun j => v ((j + or_t x) % 16)) sn sc u → post 0 u) : wpX_rotate post u x := by
  obtain ⟨f1, f2, f3, f4, f5, a1, a2, a3, a4, a5, a6, a7, a8, a9, a10, a11, a12, a13, a14, a15, a16⟩ := u
  unfold wpX_rotate
  refine or_gather h (fun sc u hs hu => ?_)
  obtain ⟨f1, f2, f3, f4, f5, a1, a2, a3, a4, a5, a6, a7, a8, a9, a10, a11, a12, a13, a14, a15, a16⟩ := u
  exact ⟨17, or_ro6 hs (H sc) 16 0 rfl _ _ _ _ _ _ _ _ _ _ _ _ _ _ _ _ _ _ _ _ _ (or_v hu (fun b hb => if_neg (by omega)))⟩
theorem or_read5 {post : Int32 → St2 → Prop} (h : or_I v sn sc u) (H : ∀ u, or_I v sn sc u → post (v 5) u) : wpX_read post u 5 := by
  obtain ⟨f1, f2, f3, f4, f5, a1, a2, a3, a4, a5, a6, a7, a8, a9, a10, a11, a12, a13, a14, a15, a16⟩ := u
  unfold wpX_read
  refine br_f (by decide) (br_f (by decide) (br_f (by decide) ?_))
  refine or_access (b := 5) (y := v 5) (by omega) h (fun _ => rfl) (fun z => absurd rfl z) (fun u hu => ?_)
  obtain ⟨f1, f2, f3, f4, f5, a1, a2, a3, a4, a5, a6, a7, a8, a9, a10, a11, a12, a13, a14, a15, a16⟩ := u
  exact H _ (or_v hu (fun b _ => by
    by_cases e : b = 5
    · rw [e, pk_us]
    · rw [pk_un e]))
/-- in how many of the first n places two pictures differ -/
def or_N (f g : Nat → Int32) : Nat → Int32
  | 0 => 0
  | n + 1 => if f n = g n then or_N f g n else or_N f g n + 1
theorem or_df19 {post : Int32 → St2 → Prop} (hs : ∀ k, k < 16 → a16 k = v k) (H : post (or_N v (fun k => a15 (16 + k)) 16) (f1, f2, f3, f4, f5, a1, a2, a3, a4, a5, a6, a7, a8, a9, a10, a11, a12, a13, a14, a15, a16)) :
    ∀ r k, k + r = 16 → wX_differing_19 post 1 f1 f2 f3 f4 f5 a1 a2 a3 a4 a5 a6 a7 a8 a9 a10 a11 a12 a13 a14 a15 a16 (r + 1) (or_N v (fun k => a15 (16 + k)) k) (nI k) := by
  intro r
  induction r with
  | zero =>
    intro k hk
    have e : k = 16 := by omega
    subst e
    exact pk_le 16 16 (fun _ => H) (fun z => absurd z (by omega))
  | succ r ih =>
    intro k hk
    have e : (16 * 1 : Int32) + nI k = nI (16 + k) := nI_add 16 k
    have ea : ((16 * 1 : Int32) + nI k).toNatClampNeg = 16 + k := by rw [e]; exact nI_clamp (by omega)
    have eb : (nI k).toNatClampNeg = k := nI_clamp (by omega)
    have ih' := ih (k + 1) (by omega)
    refine pk_le 16 k (fun z => absurd z (by omega)) (fun _ => ⟨pk_in k 16 (by omega), pk_in (16 + k) 32 (by omega) e, br_c (fun hc => nm_r (nI_1 k) ?_) (fun hc => nm_r ?_ (nm_r (nI_1 k) ih'))⟩)
    · rw [eb, ea, hs k (by omega)] at hc
      have e3 : or_N v (fun k => a15 (16 + k)) (k + 1) = or_N v (fun k => a15 (16 + k)) k := if_pos hc
      rw [e3] at ih'
      exact ih'
    · rw [eb, ea, hs k (by omega)] at hc
      exact (if_neg hc : or_N v (fun k => a15 (16 + k)) (k + 1) = or_N v (fun k => a15 (16 + k)) k + 1).symm
theorem or_diff {post : Int32 → St2 → Prop} (h : or_I v sn sc u) (H : ∀ sc u, or_I v sn sc u → post (or_N v (fun k => sn (16 + k)) 16) u) : wpX_differing post u 1 := by
  obtain ⟨f1, f2, f3, f4, f5, a1, a2, a3, a4, a5, a6, a7, a8, a9, a10, a11, a12, a13, a14, a15, a16⟩ := u
  refine br_f (by decide) (br_t rfl ?_)
  unfold wX_differing_11
  refine or_gather h (fun sc u hs hu => ?_)
  obtain ⟨f1, f2, f3, f4, f5, a1, a2, a3, a4, a5, a6, a7, a8, a9, a10, a11, a12, a13, a14, a15, a16⟩ := u
  have e15 := or_15 hu
  subst e15
  exact ⟨17, or_df19 (fun k hk => by rw [or_16 hu]; exact hs k hk) (H _ _ hu) 16 0 rfl⟩
theorem or_ld15 {post : Int32 → St2 → Prop} (H : ∀ u, or_I (fun k => sn (16 + k)) sn sc u → post (or_N v (fun k => sn (16 + k)) 16) u) :
    ∀ r k, k + r = 16 → ∀ (f1 f2 f3 f4 f5 : Int32) (a1 a2 a3 a4 a5 a6 a7 a8 a9 a10 a11 a12 a13 a14 a15 a16 : Nat → Int32), or_I (fun j => if j < k then sn (16 + j) else v j) sn sc (f1, f2, f3, f4, f5, a1, a2, a3, a4, a5, a6, a7, a8, a9, a10, a11, a12, a13, a14, a15, a16) → wX_load_15 post 1 (r + 1) (or_N v (fun k => sn (16 + k)) k) (nI k) f1 f2 f3 f4 f5 a1 a2 a3 a4 a5 a6 a7 a8 a9 a10 a11 a12 a13 a14 a15 a16 := by
  intro r
  induction r with
  | zero =>
    intro k hk f1 f2 f3 f4 f5 a1 a2 a3 a4 a5 a6 a7 a8 a9 a10 a11 a12 a13 a14 a15 a16 h
    have e : k = 16 := by omega
    subst e
    exact pk_le 16 16 (fun _ => H _ (or_v h (fun b hb => by rw [if_pos (by omega)]))) (fun z => absurd z (by omega))
  | succ r ih =>
    intro k hk f1 f2 f3 f4 f5 a1 a2 a3 a4 a5 a6 a7 a8 a9 a10 a11 a12 a13 a14 a15 a16 h
    have e : (16 * 1 : Int32) + nI k = nI (16 + k) := nI_add 16 k
    have ea : ((16 * 1 : Int32) + nI k).toNatClampNeg = 16 + k := by rw [e]; exact nI_clamp (by omega)
    refine pk_le 16 k (fun z => absurd z (by omega)) (fun _ => ⟨pk_in (16 + k) 32 (by omega) e, nm_r (show a15 _ = sn (16 + k) by rw [ea, or_15 h]) (or_access (y := sn (16 + k)) (by omega) h (fun z => absurd z (by decide)) (fun _ => rfl) (fun u hu => ?_))⟩)
    obtain ⟨f1, f2, f3, f4, f5, a1, a2, a3, a4, a5, a6, a7, a8, a9, a10, a11, a12, a13, a14, a15, a16⟩ := u
    have hu' : or_I (fun j => if j < k + 1 then sn (16 + j) else v j) sn sc (f1, f2, f3, f4, f5, a1, a2, a3, a4, a5, a6, a7, a8, a9, a10, a11, a12, a13, a14, a15, a16) := or_v hu (fun b hb => by
      by_cases e : b = k
      · rw [e, pk_us, if_pos (by omega)]
      · rw [pk_un e]
        by_cases e2 : b < k
        · rw [if_pos (by omega), if_pos e2]
        · rw [if_neg (by omega), if_neg e2])
    have ih' := ih (k + 1) (by omega) _ _ _ _ _ _ _ _ _ _ _ _ _ _ _ _ _ _ _ _ _ hu'
    have ek : (if k < k then sn (16 + k) else v k) = v k := if_neg (by omega)
    refine br_c (fun hc => nm_r (nI_1 k) ?_) (fun hc => nm_r ?_ (nm_r (nI_1 k) ih'))
    · rw [ek] at hc
      have e3 : or_N v (fun k => sn (16 + k)) (k + 1) = or_N v (fun k => sn (16 + k)) k := if_pos hc
      rw [e3] at ih'
      exact ih'
    · rw [ek] at hc
      exact (if_neg hc : or_N v (fun k => sn (16 + k)) (k + 1) = or_N v (fun k => sn (16 + k)) k + 1).symm
theorem or_load {post : Int32 → St2 → Prop} (h : or_I v sn sc u) (H : ∀ u, or_I (fun k => sn (16 + k)) sn sc u → post (or_N v (fun k => sn (16 + k)) 16) u) : wpX_load post u 1 := by
  obtain ⟨f1, f2, f3, f4, f5, a1, a2, a3, a4, a5, a6, a7, a8, a9, a10, a11, a12, a13, a14, a15, a16⟩ := u
  refine br_f (by decide) (br_t rfl ?_)
  exact ⟨17, or_ld15 H 16 0 rfl _ _ _ _ _ _ _ _ _ _ _ _ _ _ _ _ _ _ _ _ _ (or_v h (fun b hb => if_neg (by omega)))⟩
/-- what fill leaves -/
def or_F (v : Nat → Int32) (b c : Nat) (x d : Int32) : Nat → Int32 := fun j => if b ≤ j ∧ j < b + c then x + nI (j - b) * d else v j
theorem or_fl31 {post : Int32 → St2 → Prop} {b c : Nat} {x d : Int32} (hc : b + c ≤ 16) (H : ∀ u, or_I (or_F v b c x d) sn sc u → post 0 u) :
    ∀ r k, k + r = c → ∀ (f1 f2 f3 f4 f5 : Int32) (a1 a2 a3 a4 a5 a6 a7 a8 a9 a10 a11 a12 a13 a14 a15 a16 : Nat → Int32), or_I (or_F v b k x d) sn sc (f1, f2, f3, f4, f5, a1, a2, a3, a4, a5, a6, a7, a8, a9, a10, a11, a12, a13, a14, a15, a16) → wX_fill_31 post (nI b) (nI c) x d (r + 1) (nI k) f1 f2 f3 f4 f5 a1 a2 a3 a4 a5 a6 a7 a8 a9 a10 a11 a12 a13 a14 a15 a16 := by
  intro r
  induction r with
  | zero =>
    intro k hk f1 f2 f3 f4 f5 a1 a2 a3 a4 a5 a6 a7 a8 a9 a10 a11 a12 a13 a14 a15 a16 h
    have e : k = c := by omega
    subst e
    exact pk_le k k (fun _ => H _ h) (fun z => absurd z (by omega))
  | succ r ih =>
    intro k hk f1 f2 f3 f4 f5 a1 a2 a3 a4 a5 a6 a7 a8 a9 a10 a11 a12 a13 a14 a15 a16 h
    refine pk_le c k (fun z => absurd z (by omega)) (fun _ => ?_)
    rw [nI_add b k]
    refine or_access (y := x + nI k * d) (by omega) h (fun z => absurd z (by decide)) (fun _ => rfl) (fun u hu => ?_)
    obtain ⟨f1, f2, f3, f4, f5, a1, a2, a3, a4, a5, a6, a7, a8, a9, a10, a11, a12, a13, a14, a15, a16⟩ := u
    refine nm_r (nI_1 k) (ih (k + 1) (by omega) _ _ _ _ _ _ _ _ _ _ _ _ _ _ _ _ _ _ _ _ _ (or_v hu (fun j hj => ?_)))
    unfold or_F
    by_cases e : j = b + k
    · rw [e, pk_us, if_pos (by omega), Nat.add_sub_cancel_left]
    · rw [pk_un e]
      by_cases e2 : b ≤ j ∧ j < b + k
      · rw [if_pos (by omega), if_pos e2]
      · rw [if_neg (by omega), if_neg e2]
theorem or_fill {post : Int32 → St2 → Prop} {b c : Nat} {x d : Int32} (hc : b + c ≤ 16) (h : or_I v sn sc (f1, f2, f3, f4, f5, a1, a2, a3, a4, a5, a6, a7, a8, a9, a10, a11, a12, a13, a14, a15, a16)) (H : ∀ u, or_I (or_F v b c x d) sn sc u → post 0 u) : ∃ n, wX_fill_31 post (nI b) (nI c) x d n 0 f1 f2 f3 f4 f5 a1 a2 a3 a4 a5 a6 a7 a8 a9 a10 a11 a12 a13 a14 a15 a16 :=
  ⟨c + 1, or_fl31 hc H c 0 (by omega) _ _ _ _ _ _ _ _ _ _ _ _ _ _ _ _ _ _ _ _ _ (or_v h (fun j hj => by unfold or_F; rw [if_neg (by omega)]))⟩
end
end
section
section
variable {v sn sc : Nat → Int32} {f1 f2 f3 f4 f5 : Int32} {a1 a2 a3 a4 a5 a6 a7 a8 a9 a10 a11 a12 a13 a14 a15 a16 : Nat → Int32} {mc ms kc ks : Nat} {post : St2 → Prop}
theorem oi_336 (H : ∀ u, or_I v sn sc u → post u) :
    ∀ r k, k + r = 4 → ∀ (f1 f2 f3 f4 f5 : Int32) (a1 a2 a3 a4 a5 a6 a7 a8 a9 a10 a11 a12 a13 a14 a15 a16 : Nat → Int32), or_I v sn sc (f1, f2, f3, f4, f5, a1, a2, a3, a4, a5, a6, a7, a8, a9, a10, a11, a12, a13, a14, a15, a16) → wX_init_336 post mc ms kc ks (r + 1) (nI k) f1 f2 f3 f4 f5 a1 a2 a3 a4 a5 a6 a7 a8 a9 a10 a11 a12 a13 a14 a15 a16 := by
  intro r
  induction r with
  | zero =>
    intro k hk f1 f2 f3 f4 f5 a1 a2 a3 a4 a5 a6 a7 a8 a9 a10 a11 a12 a13 a14 a15 a16 h
    have e15 := or_15 h
    have e16 := or_16 h
    subst e15 e16
    exact pk_le 4 k (fun _ => H _ (or_rep h)) (fun z => absurd z (by omega))
  | succ r ih =>
    intro k hk f1 f2 f3 f4 f5 a1 a2 a3 a4 a5 a6 a7 a8 a9 a10 a11 a12 a13 a14 a15 a16 h
    obtain ⟨h15, h16, m, mm, p, W, wl, loc, ml, e1, e2, hT, hM, hp, hw⟩ := h
    subst e1 e2 h15 h16
    refine pk_le 4 k (fun z => absurd z (by omega)) (fun _ => ?_)
    refine mp_read (l := k) (by omega) hM (fun m1 O so sc st loc1 hM1 _ => ?_)
    refine mp_write (l := k) (by omega) (fun b hb => (hw b hb).1) hM1 (fun m2 O C T so sc st loc2 hM2 => ?_)
    exact nm_r (nI_1 k) (ih (k + 1) (by omega) _ _ _ _ _ _ _ _ _ _ _ _ _ _ _ _ _ _ _ _ _ ⟨rfl, rfl, m, m2, p, W, wl, loc, loc2, rfl, rfl, hT, hM2, hp, hw⟩)
theorem oi_312 (H : ∀ u, or_I v sn sc u → post u) :
    ∀ r k, k + r = 8 → ∀ (f1 f2 f3 f4 f5 : Int32) (a1 a2 a3 a4 a5 a6 a7 a8 a9 a10 a11 a12 a13 a14 a15 a16 : Nat → Int32), or_I v sn sc (f1, f2, f3, f4, f5, a1, a2, a3, a4, a5, a6, a7, a8, a9, a10, a11, a12, a13, a14, a15, a16) → wX_init_312 post mc ms kc ks (r + 1) (nI k) f1 f2 f3 f4 f5 a1 a2 a3 a4 a5 a6 a7 a8 a9 a10 a11 a12 a13 a14 a15 a16 := by
  intro r
  induction r with
  | zero =>
    intro k hk f1 f2 f3 f4 f5 a1 a2 a3 a4 a5 a6 a7 a8 a9 a10 a11 a12 a13 a14 a15 a16 h
    exact pk_le 8 k (fun _ => ⟨5, oi_336 H 4 0 rfl _ _ _ _ _ _ _ _ _ _ _ _ _ _ _ _ _ _ _ _ _ h⟩) (fun z => absurd z (by omega))
  | succ r ih =>
    intro k hk f1 f2 f3 f4 f5 a1 a2 a3 a4 a5 a6 a7 a8 a9 a10 a11 a12 a13 a14 a15 a16 h
    obtain ⟨h15, h16, m, mm, p, W, wl, loc, ml, e1, e2, hT, hM, hp, hw⟩ := h
    subst e1 e2 h15 h16
    refine pk_le 8 k (fun z => absurd z (by omega)) (fun _ => ?_)
    refine om_read (l := k) (by omega) hT (fun m1 f5 O so sc st loc1 hT1 hC => ?_)
    refine om_write (l := k) (by omega) (fun b hb => (hp b hb).1) hT1 hC (fun m2 f3 O C T V so sc st loc2 hT2 => ?_)
    exact nm_r (nI_1 k) (ih (k + 1) (by omega) _ _ _ _ _ _ _ _ _ _ _ _ _ _ _ _ _ _ _ _ _ ⟨rfl, rfl, m2, mm, p, W, wl, loc2, ml, rfl, rfl, hT2, hM, hp, hw⟩)
theorem oi_251 (H : ∀ f3 a11 a12 a13 a14, (∀ j, j < 4 → a11 j = nI j ∧ a12 j = a16 j ∧ ∃ q, q < 4 ∧ a13 j = nI q ∧ a14 j = nI q) → ∃ n, wX_init_312 post mc ms kc ks n 0 f1 4 f3 f4 f5 a1 a2 a3 a4 a5 a6 a7 a8 a9 a10 a11 a12 a13 a14 a15 a16) :
    ∀ r k, k + r = 4 → ∀ f3 a11 a12 a13 a14, (∀ j, j < k → a11 j = nI j ∧ a12 j = a16 j ∧ ∃ q, q < 4 ∧ a13 j = nI q ∧ a14 j = nI q) → wX_init_251 post mc ms kc ks (r + 1) (nI k) f1 f2 f3 f4 f5 a1 a2 a3 a4 a5 a6 a7 a8 a9 a10 a11 a12 a13 a14 a15 a16 := by
  intro r
  induction r with
  | zero =>
    intro k hk f3 a11 a12 a13 a14 h
    exact pk_le 4 k (fun _ => H f3 a11 a12 a13 a14 (fun j hj => h j (by omega))) (fun z => absurd z (by omega))
  | succ r ih =>
    intro k hk f3 a11 a12 a13 a14 h
    have e : (nI k).toNatClampNeg = k := nI_clamp (by omega)
    have h4 : k < 4 := by omega
    refine pk_le 4 k (fun z => absurd z (by omega)) (fun _ => om_nx3 (fun r x => ?_))
    obtain ⟨q, hq, eq⟩ := pk_andE r (m := 3) 2 (by decide)
    refine ⟨pk_in k 4 h4, nm_r (show upd a14 _ _ = upd a14 k (nI q) by rw [e, eq]) ⟨pk_in k 4 h4, nm_r (show upd a11 _ _ = upd a11 k (nI k) by rw [e]) ⟨pk_in k 16 (by omega), pk_in k 4 h4, nm_r (show upd a12 _ _ = upd a12 k (a16 k) by rw [e]) ⟨pk_in k 4 h4, pk_in k 4 h4, nm_r (show upd a13 _ _ = upd a13 k (nI q) by rw [e, pk_us]) (nm_r (nI_1 k) (ih (k + 1) (by omega) x _ _ _ _ (fun j hj => ?_)))⟩⟩⟩⟩
    by_cases ej : j = k
    · rw [ej, pk_us, pk_us, pk_us, pk_us]
      exact ⟨rfl, rfl, q, hq, rfl, rfl⟩
    · rw [pk_un ej, pk_un ej, pk_un ej, pk_un ej]
      exact h j (by omega)
theorem oi_185 (H : ∀ f3 a5 a7 a16, (∀ j, j < 16 → a5 j = nI j ∧ ∃ q, q < 8 ∧ a7 j = nI q ∧ ob_f (a16 (j / 4)) (j % 4) = nI q) → ∃ n, wX_init_251 post mc ms kc ks n 0 16 f2 f3 f4 f5 a1 a2 a3 a4 a5 a6 a7 a8 a9 a10 a11 a12 a13 a14 a15 a16) :
    ∀ r k, k + r = 16 → ∀ f3 a5 a7 a16, (∀ j, j < k → a5 j = nI j ∧ ∃ q, q < 8 ∧ a7 j = nI q ∧ ob_f (a16 (j / 4)) (j % 4) = nI q) → (∀ j, j < 16 → k ≤ j → ob_f (a16 (j / 4)) (j % 4) = 0) → wX_init_185 post mc ms kc ks (r + 1) (nI k) f1 f2 f3 f4 f5 a1 a2 a3 a4 a5 a6 a7 a8 a9 a10 a11 a12 a13 a14 a15 a16 := by
  intro r
  induction r with
  | zero =>
    intro k hk f3 a5 a7 a16 h _
    exact pk_le 16 k (fun _ => H f3 a5 a7 a16 (fun j hj => h j (by omega))) (fun z => absurd z (by omega))
  | succ r ih =>
    intro k hk f3 a5 a7 a16 h h0
    have e : (nI k).toNatClampNeg = k := nI_clamp (by omega)
    have h16 : k < 16 := by omega
    have e3 : nI k >>> ((2 : Int32) &&& 31) = nI (k / 4) := pk_shrN (by omega) _ 2 (by decide)
    have e4 : 3 * (nI k &&& 3) = nI (3 * (k % 4)) := by
      rw [pk_andN (by omega) 2 (by decide)]
      exact pk_mul 3 (k % 4)
    have e5 : (nI (k / 4)).toNatClampNeg = k / 4 := nI_clamp (by omega)
    have hk4 : k / 4 < 16 := by omega
    refine pk_le 16 k (fun z => absurd z (by omega)) (fun _ => om_nx (fun r x => ?_))
    obtain ⟨q, hq, eq⟩ := pk_andE r (m := 7) 3 (by decide)
    refine nm_r eq ⟨pk_in k 16 h16, nm_r (show upd a5 _ _ = upd a5 k (nI k) by rw [e]) ⟨pk_in k 16 h16, nm_r (show upd a7 _ _ = upd a7 k (nI q) by rw [e]) ⟨pk_in _ 16 hk4 e3, pk_in _ 16 hk4 e3, nm_r (show upd a16 _ _ = upd a16 (k / 4) (a16 (k / 4) ||| (nI q <<< (nI (3 * (k % 4)) &&& 31))) by rw [e3, e4, e5]) (nm_r (nI_1 k) (ih (k + 1) (by omega) x _ _ _ (fun j hj => ?_) (fun j hj hkj => ?_)))⟩⟩⟩
    · by_cases ej : j = k
      · rw [ej, pk_us, pk_us, pk_us]
        refine ⟨rfl, q, hq, rfl, ?_⟩
        rw [ob_put _ (ob_nl hq) (by omega) (by omega) (h0 k h16 (by omega)), if_pos rfl]
      · rw [pk_un ej, pk_un ej]
        obtain ⟨g1, q', g2, g3, g4⟩ := h j (by omega)
        refine ⟨g1, q', g2, g3, ?_⟩
        by_cases e6 : j / 4 = k / 4
        · rw [e6, pk_us, ob_put _ (ob_nl hq) (by omega) (by omega) (h0 k h16 (by omega)), if_neg (by omega), ← e6]
          exact g4
        · rw [pk_un e6]
          exact g4
    · by_cases e6 : j / 4 = k / 4
      · rw [e6, pk_us, ob_put _ (ob_nl hq) (by omega) (by omega) (h0 k h16 (by omega)), if_neg (by omega), ← e6]
        exact h0 j hj (by omega)
      · rw [pk_un e6]
        exact h0 j hj (by omega)
theorem oi_164 (H : ∀ a8, (∀ j, j < 16 → a8 j = -1) → ∃ n, wX_init_185 post mc ms kc ks n 0 f1 f2 f3 f4 f5 a1 a2 a3 a4 a5 a6 a7 a8 a9 a10 a11 a12 a13 a14 a15 a16) :
    ∀ r k, k + r = 16 → ∀ a8, (∀ j, j < k → a8 j = -1) → wX_init_164 post mc ms kc ks f1 f2 f3 f4 f5 (r + 1) (nI k) a1 a2 a3 a4 a5 a6 a7 a8 a9 a10 a11 a12 a13 a14 a15 a16 := by
  intro r
  induction r with
  | zero =>
    intro k hk a8 h
    exact pk_le 16 k (fun _ => H a8 (fun j hj => h j (by omega))) (fun z => absurd z (by omega))
  | succ r ih =>
    intro k hk a8 h
    refine pk_le 16 k (fun z => absurd z (by omega)) (fun _ => ⟨pk_in k 16 (by omega), nm_r (show upd a8 _ _ = upd a8 k (-1) by rw [nI_clamp (show k < 2 ^ 31 by omega)]) (nm_r (nI_1 k) (ih (k + 1) (by omega) _ (fun j hj => ?_)))⟩)
    by_cases ej : j = k
    · rw [ej, pk_us]
    · rw [pk_un ej]; exact h j (by omega)
theorem oi_143 (H : ∀ a1, (∀ j, j < 64 → a1 j = -1) → ∃ n, wX_init_164 post mc ms kc ks f1 f2 f3 f4 f5 n 0 a1 a2 a3 a4 a5 a6 a7 a8 a9 a10 a11 a12 a13 a14 a15 a16) :
    ∀ r k, k + r = 64 → ∀ a1, (∀ j, j < k → a1 j = -1) → wX_init_143 post mc ms kc ks f1 f2 f3 f4 f5 (r + 1) (nI k) a1 a2 a3 a4 a5 a6 a7 a8 a9 a10 a11 a12 a13 a14 a15 a16 := by
  intro r
  induction r with
  | zero =>
    intro k hk a1 h
    exact pk_le 64 k (fun _ => H a1 (fun j hj => h j (by omega))) (fun z => absurd z (by omega))
  | succ r ih =>
    intro k hk a1 h
    refine pk_le 64 k (fun z => absurd z (by omega)) (fun _ => ⟨pk_in k 64 (by omega), nm_r (show upd a1 _ _ = upd a1 k (-1) by rw [nI_clamp (show k < 2 ^ 31 by omega)]) (nm_r (nI_1 k) (ih (k + 1) (by omega) _ (fun j hj => ?_)))⟩)
    by_cases ej : j = k
    · rw [ej, pk_us]
    · rw [pk_un ej]; exact h j (by omega)
/-- the loops of the constructor, over arrays of zeros -/
theorem oi_loops (H : ∀ sn sc u, or_I (fun _ => 0) sn sc u → post u) : ∃ n, wX_init_143 post mc ms kc ks f1 f2 f3 f4 f5 n 0 a1 a2 a3 a4 a5 (fun _ => 0) a7 a8 a9 a10 a11 a12 a13 a14 a15 (fun _ => 0) := by
  refine ⟨65, oi_143 (fun a1 h1 => ?_) 64 0 rfl a1 (fun j hj => absurd hj (Nat.not_lt_zero j))⟩
  refine ⟨17, oi_164 (fun a8 h8 => ?_) 16 0 rfl a8 (fun j hj => absurd hj (Nat.not_lt_zero j))⟩
  refine ⟨17, oi_185 (fun f3 a5 a7 a16 h5 => ?_) 16 0 rfl f3 a5 a7 (fun _ => 0) (fun j hj => absurd hj (Nat.not_lt_zero j)) (fun j hj _ => ob_f0 (Nat.mod_lt j (by decide)))⟩
  refine ⟨5, oi_251 (fun f3 a11 a12 a13 a14 h11 => ?_) 4 0 rfl f3 a11 a12 a13 a14 (fun j hj => absurd hj (Nat.not_lt_zero j))⟩
  refine ⟨9, ?_⟩
  refine oi_312 (H a15 a16) 8 0 rfl _ _ _ _ _ _ _ _ _ _ _ _ _ _ _ _ _ _ _ _ _ ?_
  have hq : ∀ j, j < 16 → (a7 j).toNatClampNeg < 8 ∧ a7 j = nI (a7 j).toNatClampNeg ∧ ob_f (a16 (j / 4)) (j % 4) = nI (a7 j).toNatClampNeg := by
    intro j hj
    obtain ⟨_, q, g1, g2, g3⟩ := h5 j hj
    rw [g2, nI_clamp (by omega)]
    exact ⟨g1, rfl, g3⟩
  have hr : ∀ j, j < 4 → (a13 j).toNatClampNeg < 4 ∧ a13 j = nI (a13 j).toNatClampNeg ∧ a14 j = nI (a13 j).toNatClampNeg := by
    intro j hj
    obtain ⟨_, _, q, g1, g2, g3⟩ := h11 j hj
    rw [g2, nI_clamp (by omega)]
    exact ⟨g1, rfl, g3⟩
  exact ⟨rfl, rfl, 16, 4, fun j => (a7 j).toNatClampNeg, a16, fun j => (a13 j).toNatClampNeg, _, _, rfl, rfl, ot_init h1 (fun i hi => (h5 i hi).1) (fun i _ => rfl) (fun i hi => (hq i hi).2.1), ot_init h8 (fun i hi => (h11 i hi).1) (fun i hi => (h11 i hi).2.1) (fun i hi => (hr i hi).2.1), fun b hb => ⟨(hq b hb).1, (hq b hb).2.2⟩, fun w hw => ⟨(hr w hw).1, (hr w hw).2.2⟩⟩
end
theorem oi_init {post : St2 → Prop} {x : Int32} (H : ∀ sn sc u, or_I (fun _ => 0) sn sc u → post u) : wpX_init post 16 368 (0, 0, 0, 0, 0) x := by
  unfold wpX_init
  refine ⟨by decide, by decide, by decide, by decide, by decide, by decide, by decide, by decide, by decide, by decide, by decide, by decide, by decide, by decide, by decide, by decide, by decide, by decide, by decide, by decide, by decide, by decide, by decide, by decide, by decide, by decide, by decide, by decide, by decide, by decide, by decide, by decide, ?_⟩
  exact br_c (fun _ => om_nx (fun r x => oi_loops H)) (fun _ => om_nx (fun r x => oi_loops H))
end
section
theorem ol_cong {f g : Nat → Int32} : ∀ n, (∀ j, j < n → f j = g j) → or_S f n = or_S g n := by
  intro n
  induction n with
  | zero => intro _; rfl
  | succ n ih =>
    intro h
    show or_S f n + f n = or_S g n + g n
    rw [ih (fun j hj => h j (by omega)), h n (by omega)]
theorem ol_sh (f : Nat → Int32) : ∀ n, or_S (fun j => f (j + 1)) n + f 0 = or_S f (n + 1) := by
  intro n
  induction n with
  | zero => rfl
  | succ n ih =>
    show or_S (fun j => f (j + 1)) n + f (n + 1) + f 0 = or_S f (n + 1) + f (n + 1)
    rw [← ih, Int32.add_assoc, Int32.add_assoc, Int32.add_comm (f (n + 1)) (f 0)]
theorem ol_rot (v : Nat → Int32) : ∀ t, or_S (fun j => v ((j + t) % 16)) 16 = or_S v 16 := by
  intro t
  induction t with
  | zero => exact ol_cong 16 (fun j hj => by rw [Nat.add_zero, Nat.mod_eq_of_lt hj])
  | succ t ih =>
    have h := ol_sh (fun j => v ((j + t) % 16)) 16
    have h1 : or_S (fun j => v ((j + (t + 1)) % 16)) 16 = or_S (fun j => v ((j + 1 + t) % 16)) 16 := ol_cong 16 (fun j hj => by rw [show j + (t + 1) = j + 1 + t by omega])
    have h2 : or_S (fun j => v ((j + t) % 16)) 17 = or_S (fun j => v ((j + t) % 16)) 16 + v ((16 + t) % 16) := rfl
    have h3 : (16 + t) % 16 = (0 + t) % 16 := by omega
    have h4 : or_S (fun j => v ((j + 1 + t) % 16)) 16 + v ((0 + t) % 16) = or_S (fun j => v ((j + t) % 16)) 17 := h
    rw [h2, h3] at h4
    rw [h1, ← ih]
    exact Int32.add_left_inj _ |>.mp h4
theorem ol_z : ∀ n, or_S (fun _ => 0) n = 0 := by
  intro n
  induction n with
  | zero => rfl
  | succ n ih =>
    show or_S (fun _ => 0) n + 0 = 0
    rw [ih]
    rfl
def ol_tr : Nat → Nat
  | 0 => 0
  | n + 1 => ol_tr n + n
theorem ol_t16 : ∀ c, c < 17 → c * (c - 1) / 2 = ol_tr c := by decide
theorem ol_ring (k t x d : Int32) : k * x + t * d + (x + k * d) = (k + 1) * x + (t + k) * d := by grind
theorem ol_sumF (b c : Nat) (x d : Int32) : ∀ n, or_S (or_F (fun _ => 0) b c x d) n = nI (min (n - b) c) * x + nI (ol_tr (min (n - b) c)) * d := by
  intro n
  induction n with
  | zero =>
    rw [Nat.zero_sub, Nat.zero_min]
    show (0 : Int32) = nI 0 * x + nI 0 * d
    rw [nI_0, Int32.zero_mul, Int32.zero_mul]
    rfl
  | succ n ih =>
    show or_S (or_F (fun _ => 0) b c x d) n + or_F (fun _ => 0) b c x d n = _
    rw [ih]
    unfold or_F
    by_cases e : b ≤ n ∧ n < b + c
    · rw [if_pos e, show min (n - b) c = n - b by omega, show min (n + 1 - b) c = n - b + 1 by omega]
      generalize n - b = k
      show nI k * x + nI (ol_tr k) * d + (x + nI k * d) = nI (k + 1) * x + nI (ol_tr k + k) * d
      rw [← nI_add (ol_tr k) k, nI_succ k]
      exact ol_ring (nI k) (nI (ol_tr k)) x d
    · rw [if_neg e, show min (n + 1 - b) c = min (n - b) c by omega, Int32.add_zero]
theorem ol_total {b c : Nat} (h1 : 1 ≤ c) (hc : b + c ≤ 16) (x d : Int32) : or_S (or_F (fun _ => 0) b c x d) 16 = (nI c * x) + (((nI c * (nI c - 1)) / 2) * d) := by
  rw [ol_sumF, show min (16 - b) c = c by omega, ob_pred (by omega), pk_mul]
  have h3 : c * (c - 1) ≤ 16 * 16 := Nat.mul_le_mul (by omega) (by omega)
  have h2 : nI (c * (c - 1)) / 2 = nI (c * (c - 1) / 2) := pk_div (d := 2) (by omega) (by omega) (by omega)
  rw [h2, ol_t16 c (by omega)]
theorem ol_N0 {f g : Nat → Int32} : ∀ n, (∀ j, j < n → f j = g j) → or_N f g n = 0 := by
  intro n
  induction n with
  | zero => intro _; rfl
  | succ n ih =>
    intro h
    show (if f n = g n then or_N f g n else or_N f g n + 1) = 0
    rw [if_pos (h n (by omega))]
    exact ih (fun j hj => h j (by omega))
section
variable {v sn sc : Nat → Int32} {f1 f2 f3 f4 f5 : Int32} {a1 a2 a3 a4 a5 a6 a7 a8 a9 a10 a11 a12 a13 a14 a15 a16 : Nat → Int32} {mc ms kc ks : Nat} {post : Int32 → St0 → Prop}
theorem ol_250 {x12 : Int32} (P : post 1 ()) (h : or_I v sn sc (f1, f2, f3, f4, f5, a1, a2, a3, a4, a5, a6, a7, a8, a9, a10, a11, a12, a13, a14, a15, a16)) (hx : or_N v (fun k => sn (16 + k)) 16 = x12) : wL_lawOf_250 post mc ms x12 kc ks f1 f2 f3 f4 f5 a1 a2 a3 a4 a5 a6 a7 a8 a9 a10 a11 a12 a13 a14 a15 a16 := by
  unfold wL_lawOf_250
  refine or_load h (fun u hu => ?_)
  obtain ⟨f1, f2, f3, f4, f5, a1, a2, a3, a4, a5, a6, a7, a8, a9, a10, a11, a12, a13, a14, a15, a16⟩ := u
  refine br_t hx (or_diff hu (fun sc u hu => ?_))
  obtain ⟨f1, f2, f3, f4, f5, a1, a2, a3, a4, a5, a6, a7, a8, a9, a10, a11, a12, a13, a14, a15, a16⟩ := u
  exact br_t (ol_N0 16 (fun j _ => rfl)) P
theorem ol_210 {x5 x9 z0 z1 : Int32} (P : post 1 ()) (h : or_I v sn sc (f1, f2, f3, f4, f5, a1, a2, a3, a4, a5, a6, a7, a8, a9, a10, a11, a12, a13, a14, a15, a16)) (hz : z1 = z0) (hS : or_S v 16 = x9) (hd : (x5 &&& 15) = 0 → ∀ k, k < 16 → v k = sn (16 + k)) : wL_lawOf_210 post mc ms x5 x9 z0 z1 kc ks f1 f2 f3 f4 f5 a1 a2 a3 a4 a5 a6 a7 a8 a9 a10 a11 a12 a13 a14 a15 a16 := by
  refine br_t hz (or_sum h (fun sc u hu => ?_))
  obtain ⟨f1, f2, f3, f4, f5, a1, a2, a3, a4, a5, a6, a7, a8, a9, a10, a11, a12, a13, a14, a15, a16⟩ := u
  refine br_t hS (or_diff hu (fun sc u hu => ?_))
  obtain ⟨f1, f2, f3, f4, f5, a1, a2, a3, a4, a5, a6, a7, a8, a9, a10, a11, a12, a13, a14, a15, a16⟩ := u
  exact br_c (fun hc => br_t (ol_N0 16 (hd hc)) (ol_250 P hu rfl)) (fun _ => ol_250 P hu rfl)
theorem ol_184 {x1 x3 x4 x5 x9 x10 z0 : Int32} (P : post 1 ()) (h : or_I v sn sc (f1, f2, f3, f4, f5, a1, a2, a3, a4, a5, a6, a7, a8, a9, a10, a11, a12, a13, a14, a15, a16)) (h0 : z0 = 0 → v 5 = 0) (h1 : ¬ z0 = 0 → v 5 = x3 + (x4 * (x10 - x1))) (hS : or_S v 16 = x9) (hd : (x5 &&& 15) = 0 → ∀ k, k < 16 → v k = sn (16 + k)) : wL_lawOf_184 post mc ms x1 x3 x4 x5 x9 x10 z0 kc ks f1 f2 f3 f4 f5 a1 a2 a3 a4 a5 a6 a7 a8 a9 a10 a11 a12 a13 a14 a15 a16 := by
  unfold wL_lawOf_184
  refine or_read5 h (fun u hu => ?_)
  obtain ⟨f1, f2, f3, f4, f5, a1, a2, a3, a4, a5, a6, a7, a8, a9, a10, a11, a12, a13, a14, a15, a16⟩ := u
  exact br_c (fun hc => ol_210 P hu (h0 hc) hS hd) (fun hc => ol_210 P hu (h1 hc) hS hd)
theorem ol_110 {x1 x2 x3 x4 x5 x8 z0 : Int32} (P : post 1 ()) (h : or_I v sn sc (f1, f2, f3, f4, f5, a1, a2, a3, a4, a5, a6, a7, a8, a9, a10, a11, a12, a13, a14, a15, a16)) (hS : or_S v 16 = z0) (hA : x8 = 0 → ∀ j, j < 16 → v j = 0) (hB : ¬ x8 = 0 → ∃ b c, x1 = nI b ∧ x2 = nI c ∧ b + c ≤ 16 ∧ ∀ j, j < 16 → v j = or_F (fun _ => 0) b c x3 x4 j) : wL_lawOf_110 post mc ms x1 x2 x3 x4 x5 x8 z0 kc ks f1 f2 f3 f4 f5 a1 a2 a3 a4 a5 a6 a7 a8 a9 a10 a11 a12 a13 a14 a15 a16 := by
  unfold wL_lawOf_110
  refine or_sum h (fun sc u hu => ?_)
  obtain ⟨f1, f2, f3, f4, f5, a1, a2, a3, a4, a5, a6, a7, a8, a9, a10, a11, a12, a13, a14, a15, a16⟩ := u
  refine br_t hS (or_save hu (fun sn sc u hsn hu => ?_))
  obtain ⟨f1, f2, f3, f4, f5, a1, a2, a3, a4, a5, a6, a7, a8, a9, a10, a11, a12, a13, a14, a15, a16⟩ := u
  refine br_t rfl (or_stir hu (fun u hu => ?_))
  obtain ⟨f1, f2, f3, f4, f5, a1, a2, a3, a4, a5, a6, a7, a8, a9, a10, a11, a12, a13, a14, a15, a16⟩ := u
  refine or_rotate hu (fun sc u hu => ?_)
  obtain ⟨f1, f2, f3, f4, f5, a1, a2, a3, a4, a5, a6, a7, a8, a9, a10, a11, a12, a13, a14, a15, a16⟩ := u
  have hS' : or_S (fun j => v ((j + or_t x5) % 16)) 16 = z0 := by rw [ol_rot]; exact hS
  have hm : (5 + or_t x5) % 16 < 16 := by omega
  have hd : (x5 &&& 15) = 0 → ∀ k, k < 16 → v ((k + or_t x5) % 16) = sn (16 + k) := by
    intro hz k hk
    rw [hsn k hk]
    have ht : or_t x5 = 0 := by
      rw [pk_and x5 (m := 15) 4 (by decide)] at hz
      have hlt : or_t x5 < 16 := Nat.mod_lt _ (by decide)
      exact (nI_eq (a := or_t x5) (b := 0) (by omega) (by omega)).mp hz
    rw [ht, Nat.add_zero, Nat.mod_eq_of_lt hk]
  have e5 : (5 + x5) &&& 15 = nI ((5 + or_t x5) % 16) := or_rt x5 5 (by omega)
  refine br_t rfl (nm_r e5 (br_c (fun hc => ?_) (fun hc => ?_)))
  · exact ol_184 P hu (fun _ => hA hc _ hm) (fun z => absurd rfl z) hS' hd
  · obtain ⟨b, c, eb, ec, hbc, hv⟩ := hB hc
    subst eb ec
    have hv5 := hv _ hm
    refine pk_lt ((5 + or_t x5) % 16) b (fun z => ?_) (fun z => ?_)
    · exact ol_184 P hu (fun _ => by show v _ = 0; rw [hv5]; exact if_neg (by omega)) (fun z => absurd rfl z) hS' hd
    · refine pk_le (b + c) ((5 + or_t x5) % 16) (fun z2 => ?_) (fun z2 => ?_) (nI_add b c)
      · exact ol_184 P hu (fun _ => by show v _ = 0; rw [hv5]; exact if_neg (by omega)) (fun z => absurd rfl z) hS' hd
      · refine ol_184 P hu (fun z => absurd z (by decide)) (fun _ => ?_) hS' hd
        show v _ = _
        rw [hv5, pk_sub z]
        unfold or_F
        rw [if_pos (by omega), Int32.mul_comm]
theorem ol_82 {x1 x2 x3 x4 x5 x8 z0 z1 : Int32} (P : post 1 ()) (h : or_I v sn sc (f1, f2, f3, f4, f5, a1, a2, a3, a4, a5, a6, a7, a8, a9, a10, a11, a12, a13, a14, a15, a16)) (hz : z1 = z0) (hA : x8 = 0 → ∀ j, j < 16 → v j = 0) (hB : ¬ x8 = 0 → ∃ b c, x1 = nI b ∧ x2 = nI c ∧ 1 ≤ c ∧ b + c ≤ 16 ∧ ∀ j, j < 16 → v j = or_F (fun _ => 0) b c x3 x4 j) : wL_lawOf_82 post mc ms x1 x2 x3 x4 x5 x8 z0 z1 kc ks f1 f2 f3 f4 f5 a1 a2 a3 a4 a5 a6 a7 a8 a9 a10 a11 a12 a13 a14 a15 a16 := by
  refine br_t hz (br_c (fun hc => ?_) (fun hc => ⟨by decide, ?_⟩))
  · exact ol_110 P h (by rw [ol_cong 16 (hA hc)]; exact ol_z 16) hA (fun z => absurd hc z)
  · obtain ⟨b, c, eb, ec, h1, hbc, hv⟩ := hB hc
    refine ol_110 P h ?_ hA (fun _ => ⟨b, c, eb, ec, hbc, hv⟩)
    rw [ec, ol_cong 16 hv]
    exact ol_total h1 hbc _ _
/-- not sized: fill answers -1 -/
theorem ol_25 {x1 x2 x3 x4 x5 : Int32} (P : post 1 ()) (h : or_I (fun _ => 0) sn sc (f1, f2, f3, f4, f5, a1, a2, a3, a4, a5, a6, a7, a8, a9, a10, a11, a12, a13, a14, a15, a16)) (hx : x2 < 1 ∨ 16 < x2) : wL_lawOf_25 post mc ms x1 x2 x3 x4 x5 kc ks f1 f2 f3 f4 f5 a1 a2 a3 a4 a5 a6 a7 a8 a9 a10 a11 a12 a13 a14 a15 a16 := by
  have hy : wL_lawOf_82 post mc ms x1 x2 x3 x4 x5 0 (-1) (-1) kc ks f1 f2 f3 f4 f5 a1 a2 a3 a4 a5 a6 a7 a8 a9 a10 a11 a12 a13 a14 a15 a16 := ol_82 P h rfl (fun _ _ _ => rfl) (fun z => absurd rfl z)
  unfold wL_lawOf_25
  refine br_t rfl ?_
  unfold wL_lawOf_49 wL_lawOf_50
  refine br_c (fun _ => br_t rfl hy) (fun hn => br_c (fun hm => ?_) (fun _ => br_t rfl hy))
  rcases hx with z | z
  · exact absurd z hn
  · exact absurd hm (Int32.not_le.mpr z)
/-- sized, but out of range: fill answers -2 -/
theorem ol_49 {x1 x2 x3 x4 x5 : Int32} (P : post 1 ()) (h : or_I (fun _ => 0) sn sc (f1, f2, f3, f4, f5, a1, a2, a3, a4, a5, a6, a7, a8, a9, a10, a11, a12, a13, a14, a15, a16)) (hn : ¬ x2 < 1) (hm : ¬ 16 < x2) (hx : x1 < 0 ∨ (16 - x2) < x1) : wL_lawOf_49 post mc ms x1 x2 x3 x4 x5 1 kc ks f1 f2 f3 f4 f5 a1 a2 a3 a4 a5 a6 a7 a8 a9 a10 a11 a12 a13 a14 a15 a16 := by
  have hy : wL_lawOf_82 post mc ms x1 x2 x3 x4 x5 0 (-2) (-2) kc ks f1 f2 f3 f4 f5 a1 a2 a3 a4 a5 a6 a7 a8 a9 a10 a11 a12 a13 a14 a15 a16 := ol_82 P h rfl (fun _ _ _ => rfl) (fun z => absurd rfl z)
  unfold wL_lawOf_49 wL_lawOf_50
  refine br_f hn (br_t (Int32.not_lt.mp hm) (br_c (fun _ => br_f (by decide) (br_t rfl hy)) (fun h0 => br_c (fun h1 => ?_) (fun _ => br_f (by decide) (br_t rfl hy)))))
  rcases hx with z | z
  · exact absurd z h0
  · exact absurd h1 (Int32.not_le.mpr z)
theorem ol_50 {x1 x2 x3 x4 x5 : Int32} (P : post 1 ()) (h : or_I (fun _ => 0) sn sc (f1, f2, f3, f4, f5, a1, a2, a3, a4, a5, a6, a7, a8, a9, a10, a11, a12, a13, a14, a15, a16)) (hn : ¬ x2 < 1) (hm : ¬ 16 < x2) (h0 : ¬ x1 < 0) (h1 : ¬ (16 - x2) < x1) : wL_lawOf_50 post mc ms x1 x2 x3 x4 x5 1 1 kc ks f1 f2 f3 f4 f5 a1 a2 a3 a4 a5 a6 a7 a8 a9 a10 a11 a12 a13 a14 a15 a16 := by
  have hx0 : ¬ x2 < 0 := by
    intro z
    apply hn
    rw [Int32.lt_iff_toInt_lt] at z ⊢
    have e0 : (0 : Int32).toInt = 0 := by decide
    have e1 : (1 : Int32).toInt = 1 := by decide
    omega
  obtain ⟨c, hc, ec⟩ := nI_of2 (M := 16) (n := 16) (by decide) hx0 (Int32.not_lt.mp hm)
  subst ec
  have hc1 : 1 ≤ c := by
    rcases Nat.eq_zero_or_pos c with z | z
    · rw [z] at hn
      exact absurd (by decide) hn
    · exact z
  have es : 16 - nI c = nI (16 - c) := pk_sub (a := 16) hc
  have h1' := Int32.not_lt.mp h1
  rw [es] at h1'
  obtain ⟨b, hb, eb⟩ := nI_of2 (M := nI (16 - c)) (n := 16 - c) (nI_toInt (by omega)) h0 h1'
  subst eb
  unfold wL_lawOf_50
  refine br_f hn (br_t (Int32.not_lt.mp hm) (br_f h0 (br_t (Int32.not_lt.mp h1) (or_fill (by omega) h (fun u hu => ?_)))))
  obtain ⟨f1, f2, f3, f4, f5, a1, a2, a3, a4, a5, a6, a7, a8, a9, a10, a11, a12, a13, a14, a15, a16⟩ := u
  exact br_f (by decide) (br_f (by decide) (ol_82 P hu rfl (fun z => absurd z (by decide)) (fun _ => ⟨b, c, rfl, rfl, hc1, by omega, fun _ _ => rfl⟩)))
theorem ol_26 {x1 x2 x3 x4 x5 : Int32} (P : post 1 ()) (h : or_I (fun _ => 0) sn sc (f1, f2, f3, f4, f5, a1, a2, a3, a4, a5, a6, a7, a8, a9, a10, a11, a12, a13, a14, a15, a16)) (hn : ¬ x2 < 1) (hm : ¬ 16 < x2) : wL_lawOf_26 post mc ms x1 x2 x3 x4 x5 1 kc ks f1 f2 f3 f4 f5 a1 a2 a3 a4 a5 a6 a7 a8 a9 a10 a11 a12 a13 a14 a15 a16 :=
  br_f (by decide) (br_c (fun z => ol_49 P h hn hm (Or.inl z)) (fun z => br_c (fun z2 => ol_49 P h hn hm (Or.inr z2)) (fun z2 => ol_50 P h hn hm z z2)))
theorem ol_law {p0 p1 p2 p3 p4 p5 : Int32} (P : post 1 ()) : wpL_lawOf post 17 389 () p0 p1 p2 p3 p4 p5 := by
  refine ⟨by omega, by omega, 16, 368, by omega, by omega, oi_init (fun sn sc u hu => ?_)⟩
  obtain ⟨f1, f2, f3, f4, f5, a1, a2, a3, a4, a5, a6, a7, a8, a9, a10, a11, a12, a13, a14, a15, a16⟩ := u
  exact br_c (fun z => ol_25 P hu (Or.inl z)) (fun z => br_c (fun z2 => ol_25 P hu (Or.inr z2)) (fun z2 => ol_26 P hu z z2))
end
theorem ol_cell {post : Int32 → Prop} {L : Nat} {xs : Nat → Int32} (k : Nat) (hL : L ≤ 6) (hk : k < 6) (H : ∀ x, post x) : wpL_cellAt post L xs () (nI k) :=
  pk_le L k (fun _ => H 0) (fun z => ⟨pk_in k L z, H _⟩)
end
section
theorem i_vc (xs : Nat → Int32) (L : Nat) (hL : L ≤ 6) : wpL_law (fun r => r = 1) L xs := by
  unfold wpL_law
  exact ol_cell 0 hL (by omega) (fun x0 => ol_cell 1 hL (by omega) (fun x1 => ol_cell 2 hL (by omega) (fun x2 => ol_cell 3 hL (by omega) (fun x3 => ol_cell 4 hL (by omega) (fun x4 => ol_cell 5 hL (by omega) (fun x5 => ⟨17, 389, by omega, by omega, ol_law rfl⟩))))))
end
