section
/-! bits of an Int32 -/
def bd_t (x : Int32) (i : Nat) : Bool := x.toBitVec.getLsbD i
theorem bd_ext {x y : Int32} (h : ∀ i, i < 32 → bd_t x i = bd_t y i) : x = y := Int32.toBitVec_inj.mp (BitVec.eq_of_getLsbD_eq (fun i hi => h i hi))
theorem bd_or (x y : Int32) (i : Nat) : bd_t (x ||| y) i = (bd_t x i || bd_t y i) := by unfold bd_t; rw [Int32.toBitVec_or, BitVec.getLsbD_or]
theorem bd_and (x y : Int32) (i : Nat) : bd_t (x &&& y) i = (bd_t x i && bd_t y i) := by unfold bd_t; rw [Int32.toBitVec_and, BitVec.getLsbD_and]
theorem bd_xor (x y : Int32) (i : Nat) : bd_t (x ^^^ y) i = (bd_t x i ^^ bd_t y i) := by unfold bd_t; rw [Int32.toBitVec_xor, BitVec.getLsbD_xor]
theorem bd_m1 : ∀ i, i < 32 → bd_t (-1) i = true := by decide +kernel
theorem bd_0 (i : Nat) : bd_t 0 i = false := BitVec.getLsbD_zero
theorem bd_1 : ∀ i, i < 32 → bd_t 1 i = decide (i = 0) := by decide +kernel
theorem bd_1023 : ∀ i, i < 32 → bd_t 1023 i = decide (i < 10) := by decide +kernel
theorem bd_not (x : Int32) {i : Nat} (hi : i < 32) : bd_t (x ^^^ (-1)) i = !bd_t x i := by
  rw [bd_xor, bd_m1 i hi]
  cases bd_t x i <;> rfl
theorem bd_sl : ∀ n, n < 32 → ((nI n &&& 31).toBitVec.smod 32).toNat = n := by decide +kernel
theorem bd_su : ∀ n, n < 32 → (((nI n).toUInt32 &&& Int32.toUInt32 31).toBitVec % 32).toNat = n := by decide +kernel
theorem bd_one : ∀ n, n < 10 → ∀ i, i < 32 → bd_t ((1 : Int32) <<< (nI n &&& 31)) i = decide (i = n) := by decide +kernel
theorem bd_ushr (n : Nat) (hn : n < 32) (x : Int32) (i : Nat) : bd_t ((x.toUInt32 >>> ((nI n).toUInt32 &&& Int32.toUInt32 31)).toInt32) i = bd_t x (n + i) := by
  show (x.toUInt32 >>> ((nI n).toUInt32 &&& Int32.toUInt32 31)).toBitVec.getLsbD i = x.toUInt32.toBitVec.getLsbD (n + i)
  rw [UInt32.toBitVec_shiftRight]
  show (x.toUInt32.toBitVec >>> (((nI n).toUInt32 &&& Int32.toUInt32 31).toBitVec % 32).toNat).getLsbD i = _
  rw [bd_su n hn, BitVec.getLsbD_ushiftRight]
theorem bd_sshr (n : Nat) (hn : n < 32) (x : Int32) {i : Nat} (hi : i < 32) : bd_t (x >>> (nI n &&& 31)) i = if n + i < 32 then bd_t x (n + i) else bd_t x 31 := by
  unfold bd_t
  rw [Int32.toBitVec_shiftRight]
  show (x.toBitVec.sshiftRight ((nI n &&& 31).toBitVec.smod 32).toNat).getLsbD i = _
  rw [bd_sl n hn, BitVec.getLsbD_sshiftRight, BitVec.msb_eq_getLsbD_last]
  simp [hi]
theorem bd_c1 (c : Bool) : ∀ i, i < 32 → bd_t (if c then 1 else 0) i = (c && decide (i = 0)) := by
  intro i hi
  cases c
  · exact bd_0 i
  · exact bd_1 i hi
/-- one bit, by the unsigned shift -/
theorem bd_bitv {n : Nat} (hn : n < 32) (x : Int32) : ((x.toUInt32 >>> ((nI n).toUInt32 &&& Int32.toUInt32 31)).toInt32 &&& 1) = if bd_t x n then 1 else 0 := by
  apply bd_ext
  intro i hi
  rw [bd_and, bd_ushr n hn, bd_1 i hi, bd_c1 _ i hi]
  by_cases h : i = 0
  · rw [h]; rfl
  · rw [decide_eq_false h, Bool.and_false, Bool.and_false]
theorem bd_bit {n : Nat} (hn : n < 32) {x : Int32} : ((x.toUInt32 >>> ((nI n).toUInt32 &&& Int32.toUInt32 31)).toInt32 &&& 1) = 0 ↔ bd_t x n = false := by
  rw [bd_bitv hn]
  cases bd_t x n <;> decide
theorem bd_b0 {n : Nat} (hn : n < 32) {x : Int32} (h : bd_t x n = false) : ((x.toUInt32 >>> ((nI n).toUInt32 &&& Int32.toUInt32 31)).toInt32 &&& 1) = 0 := (bd_bit hn).mpr h
theorem bd_b1 {n : Nat} (hn : n < 32) {x : Int32} (h : bd_t x n = true) : ¬ ((x.toUInt32 >>> ((nI n).toUInt32 &&& Int32.toUInt32 31)).toInt32 &&& 1) = 0 := fun z => by
  rw [(bd_bit hn).mp z] at h
  exact absurd h (by decide)
/-- one bit, by the signed shift -/
theorem bd_sbit {n : Nat} (hn : n < 32) {x : Int32} : ((x >>> (nI n &&& 31)) &&& 1) = 0 ↔ bd_t x n = false := by
  have e : ((x >>> (nI n &&& 31)) &&& 1) = if bd_t x n then 1 else 0 := by
    apply bd_ext
    intro i hi
    rw [bd_and, bd_sshr n hn x hi, bd_1 i hi, bd_c1 _ i hi]
    by_cases h : i = 0
    · rw [h, if_pos (show n + 0 < 32 by omega)]; rfl
    · rw [decide_eq_false h, Bool.and_false, Bool.and_false]
  rw [e]
  cases bd_t x n <;> decide
/-! the picture -/
/-- the lines: at most one, a to b -/
def bd_G (a b : Nat) (e : Bool) (J : Nat → Int32) : Prop := ∀ j, j < 10 → ∀ i, i < 32 → bd_t (J j) i = (e && ((decide (j = a) && decide (i = b)) || (decide (j = b) && decide (i = a))))
theorem bd_Gs {a b : Nat} {e : Bool} {J : Nat → Int32} (h : bd_G a b e J) : bd_G b a e J := by
  intro j hj i hi
  rw [h j hj i hi, Bool.or_comm]
theorem bd_G0 {a b : Nat} {J : Nat → Int32} (h : ∀ j, j < 10 → J j = 0) : bd_G a b false J := by
  intro j hj i hi
  rw [h j hj, bd_0]; rfl
theorem bd_Gz {a b j : Nat} {e : Bool} {J : Nat → Int32} (h : bd_G a b e J) (hj : j < 10) (hn : e = true → j ≠ a ∧ j ≠ b) : J j = 0 := by
  apply bd_ext
  intro i hi
  rw [h j hj i hi, bd_0]
  cases e with
  | false => rfl
  | true => rw [decide_eq_false (hn rfl).1, decide_eq_false (hn rfl).2]; rfl
/-- a's row is b alone -/
theorem bd_Ga {a b : Nat} {J : Nat → Int32} (h : bd_G a b true J) (ha : a < 10) (hn : a ≠ b) : ∀ i, i < 32 → bd_t (J a) i = decide (i = b) := by
  intro i hi
  rw [h a ha i hi, decide_eq_true (rfl : a = a), decide_eq_false hn]
  simp
/-- the mates -/
def bd_M (o : Bool) (a b : Nat) (m : Nat → Int32) : Prop := ∀ j, j < 10 → m j = if (o && decide (j = a)) = true then nI b else if (o && decide (j = b)) = true then nI a else -1
theorem bd_Ms {o : Bool} {a b : Nat} {m : Nat → Int32} (hn : a ≠ b) (h : bd_M o a b m) : bd_M o b a m := by
  intro j hj
  rw [h j hj]
  cases o with
  | false => rfl
  | true =>
    by_cases h1 : j = a
    · have h2 : j ≠ b := by omega
      simp [h1, hn]
    · simp [h1]
theorem bd_Mm {o : Bool} {a b j : Nat} {m : Nat → Int32} (h : bd_M o a b m) (hj : j < 10) (hn : o = true → j ≠ a ∧ j ≠ b) : m j = -1 := by
  rw [h j hj]
  cases o with
  | false => rfl
  | true => simp [(hn rfl).1, (hn rfl).2]
theorem bd_Ma {a b : Nat} {m : Nat → Int32} (h : bd_M true a b m) (ha : a < 10) : m a = nI b := by
  rw [h a ha]
  simp
theorem bd_Mb {a b : Nat} {m : Nat → Int32} (h : bd_M true a b m) (hb : b < 10) (hn : a ≠ b) : m b = nI a := by
  rw [h b hb]
  simp [Ne.symm hn]
theorem bd_M0 {a b : Nat} {m : Nat → Int32} (h : ∀ j, j < 10 → m j = -1) : bd_M false a b m := by
  intro j hj
  rw [h j hj]; rfl
theorem bd_M1 {a b : Nat} {m : Nat → Int32} (hn : a ≠ b) (h : bd_M false a b m) : bd_M true a b (upd (upd m b (nI a)) a (nI b)) := by
  intro j hj
  by_cases h1 : j = a
  · rw [h1, pk_us]; simp
  · rw [pk_un h1]
    by_cases h2 : j = b
    · rw [h2, pk_us]; simp [Ne.symm hn]
    · rw [pk_un h2, bd_Mm h hj (fun z => absurd z (by decide))]
      simp [h1, h2]
theorem bd_fill {f s : Nat → Int32} {i k : Nat} {x : Int32} (hk : k = i) (h : ∀ j, j < i → s j = f j) (hx : x = f i) : ∀ j, j < i + 1 → upd s k x j = f j := by
  intro j hj
  rw [hk]
  by_cases e : j = i
  · rw [e, pk_us, hx]
  · rw [pk_un e]
    exact h j (by omega)
theorem bd_ml : (-1 : Int32) < 0 := by decide
theorem bd_mn : ¬ (0 : Int32) ≤ -1 := by decide
theorem bd_me {n : Nat} (h : n < 2 ^ 31) : ¬ (-1 : Int32) = nI n := fun z => by
  have := bd_ml
  rw [z] at this
  exact nI_pos h this
end
section
/-! isLine, follow, search, turn -/
theorem bd_line {post : Int32 → Prop} {f q x : Int32} {a1 a2 a3 a4 a5 a6 a7 a8 : Nat → Int32} {p i : Nat} (hp : p < 10) (hi : i < 32) (hx : x = nI p) (h0 : bd_t (a1 p) i = false → post 0) (h1 : bd_t (a1 p) i = true → post 1) : wpX_isLine post (f, q, a1, a2, a3, a4, a5, a6, a7, a8) x (nI i) := by
  subst hx
  unfold wpX_isLine
  dsimp only
  rw [nI_clamp (show p < 2 ^ 31 by omega)]
  refine ⟨pk_in p 10 hp, br_c (fun z => h0 ((bd_bit hi).mp z)) (fun z => h1 ?_)⟩
  cases e : bd_t (a1 p) i with
  | false => exact absurd ((bd_bit hi).mpr e) z
  | true => rfl
theorem bd_98 {post : Int32 → St2 → Prop} {J47 J63 : Int32 → Int32 → Int32 → (Nat → Int32) → (Nat → Int32) → (Nat → Int32) → (Nat → Int32) → (Nat → Int32) → (Nat → Int32) → (Nat → Int32) → (Nat → Int32) → Prop} {x1 x2 f q : Int32} {a1 a2 a3 a4 a5 a6 a7 a8 : Nat → Int32} {i : Nat} (h : J63 (nI (i + 1)) f q a1 a2 a3 a4 a5 a6 a7 a8) : wX_search_98 post J47 J63 x1 x2 (nI i) f q a1 a2 a3 a4 a5 a6 a7 a8 := by
  unfold wX_search_98 wX_search_99
  refine br_t rfl ?_
  unfold wX_search_122
  exact br_t bd_ml (nm_r (nI_1 i) h)
/-- one step over a line that isn't open -/
theorem bd_63s {post : Int32 → St2 → Prop} {J47 : Int32 → Int32 → Int32 → (Nat → Int32) → (Nat → Int32) → (Nat → Int32) → (Nat → Int32) → (Nat → Int32) → (Nat → Int32) → (Nat → Int32) → (Nat → Int32) → Prop} {f q : Int32} {a1 a2 a3 a4 a5 a6 a7 a8 : Nat → Int32} {p i n : Nat} (hp : p < 10) (hi : i < 10) (h8 : a8 0 = nI p) (ho : bd_t (a1 p) i = false ∨ bd_t f i = true) (hw : wX_search_63 post J47 (nI p) 0 n (nI (i + 1)) f q a1 a2 a3 a4 a5 a6 a7 a8) : wX_search_63 post J47 (nI p) 0 (n + 1) (nI i) f q a1 a2 a3 a4 a5 a6 a7 a8 :=
  pk_le 10 i (fun z => absurd z (by omega)) (fun _ => ⟨pk_in 0 10 (by omega), bd_line hp (by omega) h8 (fun _ => br_t rfl (bd_98 hw)) (fun e => br_f (by decide) (br_f (bd_b1 (by omega) (ho.resolve_left (fun z => absurd (z.symm.trans e) (by decide)))) (bd_98 hw)))⟩)
theorem bd_63A {post : Int32 → St2 → Prop} {J47 : Int32 → Int32 → Int32 → (Nat → Int32) → (Nat → Int32) → (Nat → Int32) → (Nat → Int32) → (Nat → Int32) → (Nat → Int32) → (Nat → Int32) → (Nat → Int32) → Prop} {f q : Int32} {a1 a2 a3 a4 a5 a6 a7 a8 : Nat → Int32} {p : Nat} (hp : p < 10) (h8 : a8 0 = nI p) (ho : ∀ t, t < 10 → bd_t (a1 p) t = false ∨ bd_t f t = true) (H : J47 1 f q a1 a2 a3 a4 a5 a6 a7 a8) : ∃ n, wX_search_63 post J47 (nI p) 0 n 0 f q a1 a2 a3 a4 a5 a6 a7 a8 :=
  pk_loop (σ := Unit) (fun n i _ => wX_search_63 post J47 (nI p) 0 n (nI i) f q a1 a2 a3 a4 a5 a6 a7 a8) (fun _ _ => True) 10 0 () (by omega) trivial
    (fun n _ _ => pk_le 10 10 (fun _ => nm_r (e' := 1) (by decide) H) (fun z => absurd z (by omega)))
    (fun n i _ hi _ hw => bd_63s hp hi h8 (ho i hi) (hw () trivial))
theorem bd_follow {post : Int32 → St2 → Prop} {f q X : Int32} {a1 a2 a3 a4 a5 a6 a7 a8 : Nat → Int32} {x y : Nat} (hX : X = nI x) (hx : x < 10) (hy : y < 10) (hn : x ≠ y) (h5 : ∀ j, j < 10 → a5 j = nI j) (h2x : a2 x = -1) (h2y : a2 y = -1) (h4 : a4 y = -1) (H : post (nI y) (f, q, a1, a2, a3, upd a4 y (nI x), a5, a6, a7, a8)) : wpX_follow post (f, q, a1, a2, a3, a4, a5, a6, a7, a8) X (nI y) (nI x) := by
  subst hX
  unfold wpX_follow
  dsimp only
  rw [nI_clamp (show x < 2 ^ 31 by omega), nI_clamp (show y < 2 ^ 31 by omega)]
  refine ⟨pk_in x 10 hx, pk_in y 10 hy, pk_eq x y (fun z => absurd z hn) (fun _ => ⟨pk_in x 10 hx, br_f (by rw [h2x]; exact bd_me (by omega)) (pk_eq y x (fun z => absurd z.symm hn) (fun _ => ⟨pk_in y 10 hy, br_t (by rw [h2y]; exact bd_ml) ?_⟩))⟩) (h5 x hx) (h5 y hy)⟩
  unfold wX_follow_59 wX_follow_60
  rw [nI_clamp (show y < 2 ^ 31 by omega)]
  exact br_t rfl ⟨pk_in y 10 hy, br_f (by rw [h4]; exact bd_mn) ⟨pk_in y 10 hy, nm_e ⟨pk_in y 10 hy, br_f (by rw [h2y]; exact bd_mn) H⟩⟩⟩
theorem bd_63B {post : Int32 → St2 → Prop} {J47 : Int32 → Int32 → Int32 → (Nat → Int32) → (Nat → Int32) → (Nat → Int32) → (Nat → Int32) → (Nat → Int32) → (Nat → Int32) → (Nat → Int32) → (Nat → Int32) → Prop} {f q : Int32} {a1 a2 a3 a4 a5 a6 a7 a8 : Nat → Int32} {x y : Nat} (hx : x < 10) (hy : y < 10) (hn : x ≠ y) (h8 : a8 0 = nI x) (ho : ∀ t, t < 10 → bd_t (a1 x) t = decide (t = y)) (hf : bd_t f y = false) (h5 : ∀ j, j < 10 → a5 j = nI j) (h2x : a2 x = -1) (h2y : a2 y = -1) (h4 : a4 y = -1) (H : post (nI y) (f, q, a1, a2, a3, upd a4 y (nI x), a5, a6, a7, a8)) : ∃ n, wX_search_63 post J47 (nI x) 0 n 0 f q a1 a2 a3 a4 a5 a6 a7 a8 := by
  refine pk_loop (σ := Unit) (fun n i _ => wX_search_63 post J47 (nI x) 0 n (nI i) f q a1 a2 a3 a4 a5 a6 a7 a8) (fun _ _ => True) y 0 () (by omega) trivial
    (fun n _ _ => pk_le 10 y (fun z => absurd z (by omega)) (fun _ => ⟨pk_in 0 10 (by omega), bd_line hx (by omega) h8 (fun e => ?_) (fun _ => br_f (by decide) (br_t (bd_b0 (by omega) hf) ?_))⟩))
    (fun n i _ hi _ hw => bd_63s hx (by omega) h8 (Or.inl ?_) (hw () trivial))
  · rw [ho y hy, decide_eq_true rfl] at e
    exact absurd e (by decide)
  · unfold wX_search_99
    refine br_f (by decide) ⟨pk_in 0 10 (by omega), bd_follow h8 hx hy hn h5 h2x h2y h4 ?_⟩
    show wX_search_122 post J47 _ (nI x) 0 (nI y) (nI y) f q a1 a2 a3 (upd a4 y (nI x)) a5 a6 a7 a8
    unfold wX_search_122
    exact br_f (nI_pos (by omega)) H
  · rw [ho i (by omega), decide_eq_false (by omega)]
/-- the head of a search -/
theorem bd_sr0 {post : Int32 → St2 → Prop} {f q : Int32} {a1 a2 a3 a4 a5 a6 a7 a8 : Nat → Int32} {p : Nat} (hp : p < 10)
    (H : ∀ a3 a4 a5 a8, (∀ j, j < 10 → a3 j = if j = p then 1 else 0) → (∀ j, j < 10 → a4 j = -1) → (∀ j, j < 10 → a5 j = nI j) → a8 0 = nI p → ∃ n, wX_search_47 post (nI p) n 0 f 1 a1 a2 a3 a4 a5 a6 a7 a8) : wpX_search post (f, q, a1, a2, a3, a4, a5, a6, a7, a8) (nI p) := by
  unfold wpX_search
  dsimp only
  refine pk_loop (σ := (Nat → Int32) × (Nat → Int32) × (Nat → Int32)) (fun n i s => wX_search_2 post (nI p) f q n (nI i) a1 a2 s.1 s.2.1 s.2.2 a6 a7 a8) (fun i s => (∀ j, j < i → s.1 j = 0) ∧ (∀ j, j < i → s.2.1 j = -1) ∧ (∀ j, j < i → s.2.2 j = nI j)) 10 0 (a3, a4, a5) (by omega) ⟨fun j hj => absurd hj (by omega), fun j hj => absurd hj (by omega), fun j hj => absurd hj (by omega)⟩
    (fun n s h => pk_le 10 10 (fun _ => ?_) (fun z => absurd z (by omega)))
    (fun n i s hi h hw => pk_le 10 i (fun z => absurd z (by omega)) (fun _ => ⟨pk_in i 10 hi, nm_e ⟨pk_in i 10 hi, nm_e ⟨pk_in i 10 hi, nm_e (nm_r (nI_1 i) (hw (_, _, _) ⟨bd_fill (nI_clamp (by omega)) h.1 rfl, bd_fill (nI_clamp (by omega)) h.2.1 rfl, bd_fill (nI_clamp (by omega)) h.2.2 rfl⟩))⟩⟩⟩))
  obtain ⟨h3, h4, h5⟩ := h
  unfold wpX_makeOuter
  dsimp only
  rw [nI_clamp (show p < 2 ^ 31 by omega)]
  refine ⟨pk_in p 10 hp, br_t (h3 p hp) ⟨pk_in p 10 hp, nm_e ⟨pk_in 0 10 (by omega), nm_e (nm_r (e' := 1) (by decide) (H _ _ _ _ (fun j hj => ?_) h4 h5 ?_))⟩⟩⟩
  · by_cases e : j = p
    · rw [e, pk_us, if_pos rfl]
    · rw [pk_un e, if_neg e, h3 j hj]
  · exact pk_us
theorem bd_sA {post : Int32 → St2 → Prop} {f q : Int32} {a1 a2 a3 a4 a5 a6 a7 a8 : Nat → Int32} {p : Nat} (hp : p < 10) (ho : ∀ t, t < 10 → bd_t (a1 p) t = false ∨ bd_t f t = true)
    (H : ∀ q a3 a4 a5 a8, (∀ j, j < 10 → a3 j = if j = p then 1 else 0) → post (-1) (f, q, a1, a2, a3, a4, a5, a6, a7, a8)) : wpX_search post (f, q, a1, a2, a3, a4, a5, a6, a7, a8) (nI p) :=
  bd_sr0 hp (fun a3 a4 a5 a8 h3 h4 h5 h8 => ⟨2, br_f (by decide) (br_f (by decide) (bd_63A hp h8 ho (br_t (by decide) (H _ _ _ _ _ h3))))⟩)
theorem bd_sB {post : Int32 → St2 → Prop} {f q : Int32} {a1 a2 a3 a4 a5 a6 a7 a8 : Nat → Int32} {x y : Nat} (hx : x < 10) (hy : y < 10) (hn : x ≠ y) (ho : ∀ t, t < 10 → bd_t (a1 x) t = decide (t = y)) (hf : bd_t f y = false) (h2x : a2 x = -1) (h2y : a2 y = -1)
    (H : ∀ q a3 a4 a5 a8, a4 y = nI x → post (nI y) (f, q, a1, a2, a3, a4, a5, a6, a7, a8)) : wpX_search post (f, q, a1, a2, a3, a4, a5, a6, a7, a8) (nI x) :=
  bd_sr0 hx (fun a3 a4 a5 a8 h3 h4 h5 h8 => ⟨2, br_f (by decide) (br_f (by decide) (bd_63B hx hy hn h8 ho hf h5 h2x h2y (h4 y hy) (H _ _ _ _ _ pk_us)))⟩)
theorem bd_turn {post : St2 → Prop} {f q : Int32} {a1 a2 a3 a4 a5 a6 a7 a8 : Nat → Int32} {x y : Nat} (hx : x < 10) (hy : y < 10) (h4 : a4 y = nI x) (h2 : a2 x = -1) (H : post (f, q, a1, upd (upd a2 y (nI x)) x (nI y), a3, a4, a5, a6, a7, a8)) : wpX_turn post (f, q, a1, a2, a3, a4, a5, a6, a7, a8) (nI y) := by
  have ey : (nI y).toNatClampNeg = y := nI_clamp (by omega)
  have ex : (nI x).toNatClampNeg = x := nI_clamp (by omega)
  unfold wpX_turn
  dsimp only
  refine ⟨2, br_f (by decide) (br_f (nI_pos (by omega)) ⟨pk_in y 10 hy, nm_r (e' := nI x) (by rw [ey, h4]) ⟨pk_in x 10 hx, nm_r (e' := -1) (by rw [ex, h2]) ⟨pk_in y 10 hy, nm_e ⟨pk_in x 10 hx, nm_e (nm_e (br_f (by decide) (br_t bd_ml ?_)))⟩⟩⟩⟩)⟩
  rw [ey, ex]
  exact H
end
section
/-! pairWithout -/
theorem bd_p30s {post : Int32 → St2 → Prop} {f q l : Int32} {a1 a2 a3 a4 a5 a6 a7 a8 : Nat → Int32} {i n : Nat} (hi : i < 10) (h2 : 0 ≤ a2 i) (hw : wX_pairWithout_30 post n l (nI (i + 1)) f q a1 a2 a3 a4 a5 a6 a7 a8) : wX_pairWithout_30 post (n + 1) l (nI i) f q a1 a2 a3 a4 a5 a6 a7 a8 :=
  pk_le 10 i (fun z => absurd z (by omega)) (fun _ => ⟨pk_in i 10 hi, br_t (by rw [nI_clamp (by omega)]; exact h2) (nm_r (nI_1 i) hw)⟩)
theorem bd_p30z {post : Int32 → St2 → Prop} {f q l : Int32} {a1 a2 a3 a4 a5 a6 a7 a8 : Nat → Int32} {i n : Nat} (hi : i < 10) (h2 : a2 i = -1) (hf : bd_t f i = true) (hw : wX_pairWithout_30 post n l (nI (i + 1)) f q a1 a2 a3 a4 a5 a6 a7 a8) : wX_pairWithout_30 post (n + 1) l (nI i) f q a1 a2 a3 a4 a5 a6 a7 a8 :=
  pk_le 10 i (fun z => absurd z (by omega)) (fun _ => ⟨pk_in i 10 hi, br_f (by rw [nI_clamp (by omega), h2]; exact bd_mn) (br_f (bd_b1 (by omega) hf) (nm_r (nI_1 i) hw))⟩)
theorem bd_p30A {post : Int32 → St2 → Prop} {f q l : Int32} {a1 a2 a3 a4 a5 a6 a7 a8 : Nat → Int32} {i n : Nat} (hi : i < 10) (h2 : a2 i = -1) (hf : bd_t f i = false) (ho : ∀ t, t < 10 → bd_t (a1 i) t = false ∨ bd_t f t = true) (hw : ∀ q a3 a4 a5 a8, wX_pairWithout_30 post n l (nI (i + 1)) f q a1 a2 a3 a4 a5 a6 a7 a8) : wX_pairWithout_30 post (n + 1) l (nI i) f q a1 a2 a3 a4 a5 a6 a7 a8 :=
  pk_le 10 i (fun z => absurd z (by omega)) (fun _ => ⟨pk_in i 10 hi, br_f (by rw [nI_clamp (by omega), h2]; exact bd_mn) (br_t (bd_b0 (by omega) hf) (bd_sA hi ho (fun q a3 a4 a5 a8 _ => br_t bd_ml (nm_r (nI_1 i) (hw q a3 a4 a5 a8)))))⟩)
theorem bd_p30B {post : Int32 → St2 → Prop} {f q l : Int32} {a1 a2 a3 a4 a5 a6 a7 a8 : Nat → Int32} {x y n : Nat} (hx : x < 10) (hy : y < 10) (hn : x ≠ y) (h2x : a2 x = -1) (h2y : a2 y = -1) (hfx : bd_t f x = false) (hfy : bd_t f y = false) (ho : ∀ t, t < 10 → bd_t (a1 x) t = decide (t = y)) (hw : ∀ q a3 a4 a5 a8, wX_pairWithout_30 post n (l + 1) (nI (x + 1)) f q a1 (upd (upd a2 y (nI x)) x (nI y)) a3 a4 a5 a6 a7 a8) : wX_pairWithout_30 post (n + 1) l (nI x) f q a1 a2 a3 a4 a5 a6 a7 a8 :=
  pk_le 10 x (fun z => absurd z (by omega)) (fun _ => ⟨pk_in x 10 hx, br_f (by rw [nI_clamp (by omega), h2x]; exact bd_mn) (br_t (bd_b0 (by omega) hfx) (bd_sB hx hy hn ho hfy h2x h2y (fun q a3 a4 a5 a8 h4 => br_f (nI_pos (by omega)) (bd_turn hx hy h4 h2x (nm_e (nm_r (nI_1 x) (hw q a3 a4 a5 a8)))))))⟩)
/-- no open line where the line isn't there, or an end is absent, or the point is no end -/
theorem bd_no {a b i : Nat} {e : Bool} {f : Int32} {a1 : Nat → Int32} (g : bd_G a b e a1) (hi : i < 10) (hf : bd_t f i = false) (h : (e && (!bd_t f a && !bd_t f b)) = true → i ≠ a ∧ i ≠ b) : ∀ t, t < 10 → bd_t (a1 i) t = false ∨ bd_t f t = true := by
  intro t ht
  rw [g i hi t (by omega)]
  cases e with
  | false => exact Or.inl rfl
  | true =>
    by_cases h1 : i = a
    · rw [h1] at hf
      cases h3 : bd_t f b with
      | false => exact absurd h1 (h (by rw [hf, h3]; rfl)).1
      | true =>
        by_cases h4 : t = b
        · exact Or.inr (by rw [h4, h3])
        · by_cases h5 : i = b
          · rw [← h5] at h3
            rw [h1] at h3
            rw [hf] at h3
            exact absurd h3 (by decide)
          · exact Or.inl (by simp [h4, h5])
    · by_cases h2 : i = b
      · rw [h2] at hf
        cases h3 : bd_t f a with
        | false => exact absurd h2 (h (by rw [hf, h3]; rfl)).2
        | true =>
          by_cases h4 : t = a
          · exact Or.inr (by rw [h4, h3])
          · exact Or.inl (by simp [h4, h1])
      · exact Or.inl (by simp [h1, h2])
theorem bd_p30 {post : Int32 → St2 → Prop} {f q : Int32} {a1 a2 a3 a4 a5 a6 a7 a8 : Nat → Int32} {a b : Nat} {e : Bool} (hab : a < b) (hb : b < 10) (g : bd_G a b e a1) (hM : bd_M false a b a2)
    (H : ∀ q a2 a3 a4 a5 a8, bd_M (e && (!bd_t f a && !bd_t f b)) a b a2 → post (if (e && (!bd_t f a && !bd_t f b)) = true then 1 else 0) (f, q, a1, a2, a3, a4, a5, a6, a7, a8)) :
    ∃ n, wX_pairWithout_30 post n 0 0 f q a1 a2 a3 a4 a5 a6 a7 a8 := by
  have hno := fun i (hi : i < 10) hf h => bd_no (i := i) (f := f) g hi hf h
  have hB : (e && (!bd_t f a && !bd_t f b)) = true → e = true ∧ bd_t f a = false ∧ bd_t f b = false := by
    cases e <;> cases bd_t f a <;> cases bd_t f b <;> decide
  generalize (e && (!bd_t f a && !bd_t f b)) = o at H hno hB
  refine pk_loop (σ := Int32 × Int32 × (Nat → Int32) × (Nat → Int32) × (Nat → Int32) × (Nat → Int32) × (Nat → Int32)) (fun n i s => wX_pairWithout_30 post n s.1 (nI i) f s.2.1 a1 s.2.2.1 s.2.2.2.1 s.2.2.2.2.1 s.2.2.2.2.2.1 a6 a7 s.2.2.2.2.2.2)
    (fun i s => s.1 = (if (o && decide (a < i)) = true then 1 else 0) ∧ bd_M (o && decide (a < i)) a b s.2.2.1) 10 0 (0, q, a2, a3, a4, a5, a8) (by omega) ?_ ?_ ?_
  · dsimp only
    rw [decide_eq_false (by omega), Bool.and_false]
    exact ⟨rfl, hM⟩
  · intro n s h
    obtain ⟨l, q, m2, m3, m4, m5, m8⟩ := s
    dsimp only at h ⊢
    rw [decide_eq_true (show a < 10 by omega), Bool.and_true] at h
    refine pk_le 10 10 (fun _ => ?_) (fun z => absurd z (by omega))
    rw [h.1]
    exact H _ _ _ _ _ _ h.2
  · intro n i s hi h hw
    obtain ⟨l, q, m2, m3, m4, m5, m8⟩ := s
    have hw' : ∀ l' q m2 m3 m4 m5 m8, l' = (if (o && decide (a < i + 1)) = true then 1 else 0) → bd_M (o && decide (a < i + 1)) a b m2 → wX_pairWithout_30 post n l' (nI (i + 1)) f q a1 m2 m3 m4 m5 a6 a7 m8 := fun l' q m2 m3 m4 m5 m8 h1 h2 => hw (l', q, m2, m3, m4, m5, m8) ⟨h1, h2⟩
    dsimp only at h ⊢
    obtain ⟨h1, h2⟩ := h
    -- the cases: the first end; the second end; no end, or no pairing
    by_cases hc : o = true ∧ (i = a ∨ i = b)
    · obtain ⟨ho, hc⟩ := hc
      obtain ⟨he, hfa, hfb⟩ := hB ho
      subst ho
      subst he
      rcases hc with hc | hc
      · subst hc
        rw [decide_eq_false (by omega), Bool.and_false] at h1 h2
        rw [decide_eq_true (show i < i + 1 by omega), Bool.and_true] at hw'
        refine bd_p30B hi hb (by omega) (bd_Mm h2 hi (fun z => absurd z (by decide))) (bd_Mm h2 hb (fun z => absurd z (by decide))) hfa hfb (fun t ht => bd_Ga g hi (by omega) t (by omega)) (fun q m3 m4 m5 m8 => hw' _ _ _ _ _ _ _ ?_ (bd_M1 (by omega) h2))
        rw [h1]
        decide
      · subst hc
        rw [decide_eq_true hab, Bool.and_true] at h1 h2
        rw [decide_eq_true (show a < i + 1 by omega), Bool.and_true] at hw'
        refine bd_p30s hi ?_ (hw' _ _ _ _ _ _ _ h1 h2)
        rw [bd_Mb h2 hi (by omega)]
        exact nI_pos' (by omega)
    · have hia : o = true → i ≠ a ∧ i ≠ b := fun z => ⟨fun w => hc ⟨z, Or.inl w⟩, fun w => hc ⟨z, Or.inr w⟩⟩
      have ed : (o && decide (a < i + 1)) = (o && decide (a < i)) := by
        cases o with
        | false => rfl
        | true =>
          have := (hia rfl).1
          congr 1
          exact decide_eq_decide.mpr (by omega)
      rw [ed] at hw'
      have hm : m2 i = -1 := bd_Mm h2 hi (fun z => hia (by
        cases o with
        | false => exact absurd z Bool.false_ne_true
        | true => rfl))
      cases hf : bd_t f i with
      | true => exact bd_p30z hi hm hf (hw' _ _ _ _ _ _ _ h1 h2)
      | false => exact bd_p30A hi hm hf (hno i hi hf hia) (fun q m3 m4 m5 m8 => hw' _ _ _ _ _ _ _ h1 h2)
theorem bd_pwl {post : Int32 → St2 → Prop} {f0 f q : Int32} {a1 a2 a3 a4 a5 a6 a7 a8 : Nat → Int32} {a b : Nat} {e : Bool} (hab : a < b) (hb : b < 10) (g : bd_G a b e a1)
    (H : ∀ q a2 a3 a4 a5 a8, bd_M (e && (!bd_t f a && !bd_t f b)) a b a2 → post (if (e && (!bd_t f a && !bd_t f b)) = true then 1 else 0) (f, q, a1, a2, a3, a4, a5, a6, a7, a8)) :
    wpX_pairWithout post (f0, q, a1, a2, a3, a4, a5, a6, a7, a8) f := by
  unfold wpX_pairWithout
  dsimp only
  exact pk_loop (fun n i s => wX_pairWithout_7 post f q n (nI i) a1 s a3 a4 a5 a6 a7 a8) (fun i s => ∀ j, j < i → s j = -1) 10 0 a2 (by omega) (fun j hj => absurd hj (by omega))
    (fun n s h => pk_le 10 10 (fun _ => bd_p30 hab hb g (bd_M0 h) H) (fun z => absurd z (by omega)))
    (fun n i s hi h hw => pk_le 10 i (fun z => absurd z (by omega)) (fun _ => ⟨pk_in i 10 hi, nm_e (nm_r (nI_1 i) (hw _ (bd_fill (f := fun _ => -1) (nI_clamp (by omega)) h rfl)))⟩))
theorem bd_pw {post : Int32 → St2 → Prop} {f0 f q : Int32} {a1 a2 a3 a4 a5 a6 a7 a8 : Nat → Int32} {a b : Nat} {e : Bool} (ha : a < 10) (hb : b < 10) (hn : a ≠ b) (g : bd_G a b e a1)
    (H : ∀ q a2 a3 a4 a5 a8, bd_M (e && (!bd_t f a && !bd_t f b)) a b a2 → post (if (e && (!bd_t f a && !bd_t f b)) = true then 1 else 0) (f, q, a1, a2, a3, a4, a5, a6, a7, a8)) :
    wpX_pairWithout post (f0, q, a1, a2, a3, a4, a5, a6, a7, a8) f := by
  by_cases hab : a < b
  · exact bd_pwl hab hb g H
  · refine bd_pwl (a := b) (b := a) (by omega) ha (bd_Gs g) (fun q a2 a3 a4 a5 a8 h => ?_)
    rw [Bool.and_comm (!bd_t f b)] at h ⊢
    exact H q a2 a3 a4 a5 a8 (bd_Ms (Ne.symm hn) h)
/-- nobody absent -/
theorem bd_pw0 {post : Int32 → St2 → Prop} {f0 q : Int32} {a1 a2 a3 a4 a5 a6 a7 a8 : Nat → Int32} {a b : Nat} {e : Bool} (ha : a < 10) (hb : b < 10) (hn : a ≠ b) (g : bd_G a b e a1)
    (H : ∀ q a2 a3 a4 a5 a8, bd_M e a b a2 → post (if e = true then 1 else 0) (0, q, a1, a2, a3, a4, a5, a6, a7, a8)) :
    wpX_pairWithout post (f0, q, a1, a2, a3, a4, a5, a6, a7, a8) 0 := by
  refine bd_pw ha hb hn g (fun q a2 a3 a4 a5 a8 h => ?_)
  rw [bd_0, bd_0, show (e && (!false && !false)) = e by cases e <;> rfl] at h ⊢
  exact H q a2 a3 a4 a5 a8 h
/-! spares -/
theorem bd_s27 {post : Int32 → St2 → Prop} {J4 : Int32 → Int32 → Int32 → Int32 → (Nat → Int32) → (Nat → Int32) → (Nat → Int32) → (Nat → Int32) → (Nat → Int32) → (Nat → Int32) → (Nat → Int32) → (Nat → Int32) → Prop} {f q x : Int32} {a1 a2 a3 a4 a5 a6 a7 a8 : Nat → Int32} {k : Nat} (hk : k < 10) (h3 : ∀ j, j < 10 → a3 j = if j = k then 1 else 0)
    (H : ∀ z, (∀ i, i < 10 → bd_t z i = (bd_t x i || decide (i = k))) → J4 z (nI (k + 1)) f q a1 a2 a3 a4 a5 a6 a7 a8) : ∃ n, wX_spares_27 post J4 (nI k) f q a1 a2 a3 a4 a5 a6 a7 a8 n x 0 := by
  refine pk_loop (fun n t z => wX_spares_27 post J4 (nI k) f q a1 a2 a3 a4 a5 a6 a7 a8 n z (nI t)) (fun t z => ∀ i, i < 10 → bd_t z i = (bd_t x i || (decide (i = k) && decide (k < t)))) 10 0 x (by omega) (fun i hi => by simp)
    (fun n z h => pk_le 10 10 (fun _ => nm_r (nI_1 k) (H z (fun i hi => by rw [h i hi, decide_eq_true hk, Bool.and_true]))) (fun z => absurd z (by omega)))
    (fun n t z ht h hw => pk_le 10 t (fun z => absurd z (by omega)) (fun _ => ⟨pk_in t 10 ht, ?_⟩))
  by_cases e : t = k
  · refine br_f ?_ (nm_e (nm_r (nI_1 t) (hw _ (fun i hi => ?_))))
    · rw [nI_clamp (by omega), h3 t ht, if_pos e]
      decide
    · rw [bd_or, h i hi, bd_one t ht i (by omega), e]
      by_cases e2 : i = k <;> simp [e2]
  · refine br_t ?_ (nm_e (nm_r (nI_1 t) (hw _ (fun i hi => ?_))))
    · rw [nI_clamp (by omega), h3 t ht, if_neg e]
    · rw [bd_or, h i hi, bd_0, Bool.or_false, show decide (k < t + 1) = decide (k < t) from decide_eq_decide.mpr (by omega)]
theorem bd_sp {post : Int32 → St2 → Prop} {f q : Int32} {a1 a2 a3 a4 a5 a6 a7 a8 : Nat → Int32} (hm : ∀ p, p < 10 → a2 p < 0 → a1 p = 0)
    (H : ∀ r q a3 a4 a5 a8, (∀ i, i < 10 → bd_t r i = decide (a2 i < 0)) → post r (f, q, a1, a2, a3, a4, a5, a6, a7, a8)) : wpX_spares post (f, q, a1, a2, a3, a4, a5, a6, a7, a8) := by
  unfold wpX_spares
  dsimp only
  refine pk_loop (σ := Int32 × Int32 × (Nat → Int32) × (Nat → Int32) × (Nat → Int32) × (Nat → Int32)) (fun n i s => wX_spares_4 post n s.1 (nI i) f s.2.1 a1 a2 s.2.2.1 s.2.2.2.1 s.2.2.2.2.1 a6 a7 s.2.2.2.2.2)
    (fun k s => ∀ i, i < 10 → bd_t s.1 i = (decide (i < k) && decide (a2 i < 0))) 10 0 (0, q, a3, a4, a5, a8) (by omega) (fun i hi => by simp [bd_0])
    (fun n s h => pk_le 10 10 (fun _ => H _ _ _ _ _ _ (fun i hi => by rw [h i hi, decide_eq_true hi, Bool.true_and])) (fun z => absurd z (by omega)))
    (fun n k s hk h hw => pk_le 10 k (fun z => absurd z (by omega)) (fun _ => ⟨pk_in k 10 hk, ?_⟩))
  by_cases e : a2 k < 0
  · refine br_f ?_ (bd_sA hk (fun t ht => Or.inl ?_) (fun q m3 m4 m5 m8 h3 => bd_s27 hk h3 (fun z hz => hw (z, q, m3, m4, m5, m8) (fun i hi => ?_))))
    · rw [nI_clamp (by omega)]
      exact Int32.not_le.mpr e
    · rw [hm k hk e, bd_0]
    · show bd_t z i = _
      rw [hz i hi, h i hi]
      by_cases e2 : i = k
      · simp [e2, e]
      · rw [show decide (i < k + 1) = decide (i < k) from decide_eq_decide.mpr (by omega)]
        simp [e2]
  · refine br_t ?_ (nm_r (nI_1 k) (hw s (fun i hi => ?_)))
    · rw [nI_clamp (by omega)]
      exact Int32.not_lt.mp e
    · rw [h i hi]
      by_cases e2 : i = k
      · simp [e2, e]
      · rw [show decide (i < k + 1) = decide (i < k) from decide_eq_decide.mpr (by omega)]
/-- behind a pairing with nobody absent the free points have no line -/
theorem bd_free {a b : Nat} {e : Bool} {a1 a2 : Nat → Int32} (ha : a < 10) (hb : b < 10) (hn : a ≠ b) (g : bd_G a b e a1) (h : bd_M e a b a2) : ∀ p, p < 10 → a2 p < 0 → a1 p = 0 := by
  intro p hp z
  refine bd_Gz g hp (fun he => ?_)
  subst he
  refine ⟨fun w => ?_, fun w => ?_⟩
  · rw [w, bd_Ma h ha] at z
    exact nI_pos (by omega) z
  · rw [w, bd_Mb h hb hn] at z
    exact nI_pos (by omega) z
theorem bd_dec {a b p : Nat} {e : Bool} {a2 : Nat → Int32} (ha : a < 10) (hb : b < 10) (hn : a ≠ b) (hp : p < 10) (h : bd_M e a b a2) : decide (a2 p < 0) = !(e && (decide (p = a) || decide (p = b))) := by
  cases e with
  | false =>
    rw [bd_Mm h hp (fun z => absurd z (by decide))]
    rfl
  | true =>
    by_cases h1 : p = a
    · rw [h1, bd_Ma h ha, decide_eq_false (nI_pos (by omega))]
      simp
    · by_cases h2 : p = b
      · rw [h2, bd_Mb h hb hn, decide_eq_false (nI_pos (by omega))]
        simp
      · rw [bd_Mm h hp (fun _ => ⟨h1, h2⟩)]
        simp [h1, h2]
end
section
/-! the class's methods, on a state with the picture bd_G a b e -/
theorem bd_pair {post : Int32 → Prop} {a b : Nat} (ha : a < 10) (hb : b < 10) (hn : a ≠ b) (h : post 1) : wpX_isPair post () (nI a) (nI b) :=
  br_f (nI_pos (by omega)) (pk_lt 9 a (fun z => absurd z (by omega)) (fun _ => br_f (nI_pos (by omega)) (pk_lt 9 b (fun z => absurd z (by omega)) (fun _ => pk_eq a b (fun z => absurd z hn) (fun _ => h)))))
/-- no pair -/
def bd_N (x y : Int32) : Prop := x < 0 ∨ 9 < x ∨ y < 0 ∨ 9 < y ∨ x = y
theorem bd_Ns {x y : Int32} (h : bd_N x y) : bd_N y x := by
  rcases h with h | h | h | h | h
  · exact Or.inr (Or.inr (Or.inl h))
  · exact Or.inr (Or.inr (Or.inr (Or.inl h)))
  · exact Or.inl h
  · exact Or.inr (Or.inl h)
  · exact Or.inr (Or.inr (Or.inr (Or.inr h.symm)))
theorem bd_npair {post : Int32 → Prop} {x y : Int32} (hN : bd_N x y) (h : post 0) : wpX_isPair post () x y := by
  refine br_c (fun _ => h) (fun h1 => br_c (fun _ => h) (fun h2 => br_c (fun _ => h) (fun h3 => br_c (fun _ => h) (fun h4 => br_c (fun _ => h) (fun h5 => ?_)))))
  rcases hN with z | z | z | z | z
  · exact absurd z h1
  · exact absurd z h2
  · exact absurd z h3
  · exact absurd z h4
  · exact absurd z h5
theorem bd_joinG {a b : Nat} {e : Bool} {J : Nat → Int32} (ha : a < 10) (hb : b < 10) (hn : a ≠ b) (g : bd_G a b e J) : bd_G a b true (upd (upd J a (J a ||| ((1 : Int32) <<< (nI b &&& 31)))) b ((upd J a (J a ||| ((1 : Int32) <<< (nI b &&& 31)))) b ||| ((1 : Int32) <<< (nI a &&& 31)))) := by
  intro j hj i hi
  by_cases h1 : j = b
  · subst h1
    rw [pk_us, pk_un (Ne.symm hn), bd_or, bd_one a ha i hi, g j hj i hi]
    cases e <;> simp [Ne.symm hn]
  · rw [pk_un h1]
    by_cases h2 : j = a
    · subst h2
      rw [pk_us, bd_or, bd_one b hb i hi, g j hj i hi]
      cases e <;> simp [hn]
    · rw [pk_un h2, g j hj i hi]
      cases e <;> simp [h1, h2]
theorem bd_partG {a b : Nat} {e : Bool} {J : Nat → Int32} (ha : a < 10) (hb : b < 10) (hn : a ≠ b) (g : bd_G a b e J) : bd_G a b false (upd (upd J a (J a &&& (((1 : Int32) <<< (nI b &&& 31)) ^^^ (-1)))) b ((upd J a (J a &&& (((1 : Int32) <<< (nI b &&& 31)) ^^^ (-1)))) b &&& (((1 : Int32) <<< (nI a &&& 31)) ^^^ (-1)))) := by
  intro j hj i hi
  by_cases h1 : j = b
  · subst h1
    rw [pk_us, pk_un (Ne.symm hn), bd_and, bd_not _ hi, bd_one a ha i hi, g j hj i hi]
    cases e <;> simp [Ne.symm hn]
  · rw [pk_un h1]
    by_cases h2 : j = a
    · subst h2
      rw [pk_us, bd_and, bd_not _ hi, bd_one b hb i hi, g j hj i hi]
      cases e <;> simp [hn]
    · rw [pk_un h2, g j hj i hi]
      cases e <;> simp [h1, h2]
theorem bd_Gl {a b : Nat} {e : Bool} {J : Nat → Int32} (ha : a < 10) (hb : b < 10) (hn : a ≠ b) (g : bd_G a b e J) : bd_t (J a) b = e := by
  rw [g a ha b (by omega), decide_eq_true (rfl : a = a), decide_eq_true (rfl : b = b)]
  cases e <;> rfl
theorem bd_join {post : Int32 → St2 → Prop} {f q : Int32} {a1 a2 a3 a4 a5 a6 a7 a8 : Nat → Int32} {a b : Nat} {e : Bool} (ha : a < 10) (hb : b < 10) (hn : a ≠ b) (g : bd_G a b e a1)
    (H : ∀ a1, bd_G a b true a1 → post (if e = true then 0 else 1) (f, q, a1, a2, a3, a4, a5, a6, a7, a8)) : wpX_join post (f, q, a1, a2, a3, a4, a5, a6, a7, a8) (nI a) (nI b) := by
  have ea : (nI a).toNatClampNeg = a := nI_clamp (by omega)
  have eb : (nI b).toNatClampNeg = b := nI_clamp (by omega)
  have h24 : ∀ z0, z0 = (if e = true then 0 else 1) → wX_join_24 post (nI a) (nI b) z0 f q a1 a2 a3 a4 a5 a6 a7 a8 := by
    intro z0 hz
    rw [hz]
    unfold wX_join_24
    rw [ea, eb]
    exact ⟨pk_in a 10 ha, pk_in a 10 ha, nm_e ⟨pk_in b 10 hb, pk_in b 10 hb, nm_e (H _ (bd_joinG ha hb hn g))⟩⟩
  unfold wpX_join
  dsimp only
  refine bd_pair ha hb hn (br_f (by decide) (bd_line ha (by omega) rfl (fun z => br_t rfl (h24 _ ?_)) (fun z => br_f (by decide) (h24 _ ?_))))
  · rw [bd_Gl ha hb hn g] at z
    rw [z]
    rfl
  · rw [bd_Gl ha hb hn g] at z
    rw [z]
    rfl
theorem bd_joinN {post : Int32 → St2 → Prop} {f q x y : Int32} {a1 a2 a3 a4 a5 a6 a7 a8 : Nat → Int32} (hN : bd_N x y) (H : post (-1) (f, q, a1, a2, a3, a4, a5, a6, a7, a8)) : wpX_join post (f, q, a1, a2, a3, a4, a5, a6, a7, a8) x y := by
  unfold wpX_join
  dsimp only
  exact bd_npair hN (br_t rfl H)
theorem bd_part {post : Int32 → St2 → Prop} {f q : Int32} {a1 a2 a3 a4 a5 a6 a7 a8 : Nat → Int32} {a b : Nat} {e : Bool} (ha : a < 10) (hb : b < 10) (hn : a ≠ b) (g : bd_G a b e a1)
    (H : ∀ a1, bd_G a b false a1 → post (if e = true then 1 else 0) (f, q, a1, a2, a3, a4, a5, a6, a7, a8)) : wpX_part post (f, q, a1, a2, a3, a4, a5, a6, a7, a8) (nI a) (nI b) := by
  have ea : (nI a).toNatClampNeg = a := nI_clamp (by omega)
  have eb : (nI b).toNatClampNeg = b := nI_clamp (by omega)
  have h24 : ∀ z0, z0 = (if e = true then 1 else 0) → wX_part_24 post (nI a) (nI b) z0 f q a1 a2 a3 a4 a5 a6 a7 a8 := by
    intro z0 hz
    rw [hz]
    unfold wX_part_24
    rw [ea, eb]
    exact ⟨pk_in a 10 ha, pk_in a 10 ha, nm_e ⟨pk_in b 10 hb, pk_in b 10 hb, nm_e (H _ (bd_partG ha hb hn g))⟩⟩
  unfold wpX_part
  dsimp only
  refine bd_pair ha hb hn (br_f (by decide) (bd_line ha (by omega) rfl (fun z => br_t rfl (h24 _ ?_)) (fun z => br_f (by decide) (h24 _ ?_))))
  · rw [bd_Gl ha hb hn g] at z
    rw [z]
    rfl
  · rw [bd_Gl ha hb hn g] at z
    rw [z]
    rfl
theorem bd_partN {post : Int32 → St2 → Prop} {f q x y : Int32} {a1 a2 a3 a4 a5 a6 a7 a8 : Nat → Int32} (hN : bd_N x y) (H : post (-1) (f, q, a1, a2, a3, a4, a5, a6, a7, a8)) : wpX_part post (f, q, a1, a2, a3, a4, a5, a6, a7, a8) x y := by
  unfold wpX_part
  dsimp only
  exact bd_npair hN (br_t rfl H)
theorem bd_most {post : Int32 → St2 → Prop} {f q : Int32} {a1 a2 a3 a4 a5 a6 a7 a8 : Nat → Int32} {a b : Nat} {e : Bool} (ha : a < 10) (hb : b < 10) (hn : a ≠ b) (g : bd_G a b e a1)
    (H : ∀ f q a2 a3 a4 a5 a6 a7 a8, post (if e = true then 1 else 0) (f, q, a1, a2, a3, a4, a5, a6, a7, a8)) : wpX_most post (f, q, a1, a2, a3, a4, a5, a6, a7, a8) := by
  unfold wpX_most
  dsimp only
  exact bd_pw0 ha hb hn g (fun q a2 a3 a4 a5 a8 _ => H _ _ _ _ _ _ _ _ _)
theorem bd_mostW {post : Int32 → St2 → Prop} {f q s : Int32} {a1 a2 a3 a4 a5 a6 a7 a8 : Nat → Int32} {a b : Nat} {e : Bool} (ha : a < 10) (hb : b < 10) (hn : a ≠ b) (g : bd_G a b e a1)
    (H : ∀ f q a2 a3 a4 a5 a6 a7 a8, post (if (e && (!bd_t s a && !bd_t s b)) = true then 1 else 0) (f, q, a1, a2, a3, a4, a5, a6, a7, a8)) : wpX_mostWithout post (f, q, a1, a2, a3, a4, a5, a6, a7, a8) s := by
  have hs : ∀ i, i < 10 → bd_t (s &&& 1023) i = bd_t s i := fun i hi => by
    rw [bd_and, bd_1023 i (by omega), decide_eq_true hi, Bool.and_true]
  unfold wpX_mostWithout
  dsimp only
  refine bd_pw ha hb hn g (fun q a2 a3 a4 a5 a8 _ => ?_)
  rw [hs a ha, hs b hb]
  exact H _ _ _ _ _ _ _ _ _
theorem bd_spare {post : Int32 → St2 → Prop} {f q : Int32} {a1 a2 a3 a4 a5 a6 a7 a8 : Nat → Int32} {a b p : Nat} {e : Bool} (ha : a < 10) (hb : b < 10) (hn : a ≠ b) (g : bd_G a b e a1) (hp : p < 10)
    (H : ∀ f q a2 a3 a4 a5 a6 a7 a8, post (if (e && (decide (p = a) || decide (p = b))) = true then 0 else 1) (f, q, a1, a2, a3, a4, a5, a6, a7, a8)) : wpX_spare post (f, q, a1, a2, a3, a4, a5, a6, a7, a8) (nI p) := by
  unfold wpX_spare
  dsimp only
  refine br_f (nI_pos (by omega)) (pk_le p 9 (fun _ => bd_pw0 ha hb hn g (fun q a2 a3 a4 a5 a8 hM => bd_sp (bd_free ha hb hn g hM) (fun r q a3 a4 a5 a8 hr => ?_))) (fun z => absurd z (by omega)))
  show post ((r.toUInt32 >>> ((nI p).toUInt32 &&& Int32.toUInt32 31)).toInt32 &&& 1) _
  rw [bd_bitv (by omega), hr p hp, bd_dec ha hb hn hp hM]
  have := H 0 q a2 a3 a4 a5 a6 a7 a8
  cases hc : (e && (decide (p = a) || decide (p = b))) <;> rw [hc] at this <;> exact this
theorem bd_spareN {post : Int32 → St2 → Prop} {f q x : Int32} {a1 a2 a3 a4 a5 a6 a7 a8 : Nat → Int32} (hx : x < 0 ∨ ¬ x ≤ 9) (H : post (-1) (f, q, a1, a2, a3, a4, a5, a6, a7, a8)) : wpX_spare post (f, q, a1, a2, a3, a4, a5, a6, a7, a8) x := by
  unfold wpX_spare
  dsimp only
  exact br_c (fun _ => H) (fun z => br_f (hx.resolve_left z) H)
theorem bd_usable {post : Int32 → St2 → Prop} {f q : Int32} {a1 a2 a3 a4 a5 a6 a7 a8 : Nat → Int32} {a b : Nat} (ha : a < 10) (hb : b < 10) (hn : a ≠ b) (g : bd_G a b true a1)
    (H : ∀ f q a2 a3 a4 a5 a6 a7 a8, post 1 (f, q, a1, a2, a3, a4, a5, a6, a7, a8)) : wpX_usable post (f, q, a1, a2, a3, a4, a5, a6, a7, a8) (nI a) (nI b) := by
  unfold wpX_usable
  dsimp only
  refine bd_pair ha hb hn (br_f (by decide) (bd_pw0 ha hb hn g (fun q a2 a3 a4 a5 a8 _ => bd_pw ha hb hn g (fun q a2 a3 a4 a5 a8 _ => bd_line ha (by omega) rfl (fun z => ?_) (fun _ => br_f (by decide) (br_t ?_ (H _ _ _ _ _ _ _ _ _)))))))
  · rw [bd_Gl ha hb hn g] at z
    exact absurd z (by decide)
  · rw [bd_or, bd_one a ha a (by omega), decide_eq_true (rfl : a = a)]
    rfl
theorem bd_usableN {post : Int32 → St2 → Prop} {f q x y : Int32} {a1 a2 a3 a4 a5 a6 a7 a8 : Nat → Int32} (hN : bd_N x y) (H : post (-1) (f, q, a1, a2, a3, a4, a5, a6, a7, a8)) : wpX_usable post (f, q, a1, a2, a3, a4, a5, a6, a7, a8) x y := by
  unfold wpX_usable
  dsimp only
  exact bd_npair hN (br_t rfl H)
theorem bd_needed {post : Int32 → St2 → Prop} {f q : Int32} {a1 a2 a3 a4 a5 a6 a7 a8 : Nat → Int32} {a b : Nat} (ha : a < 10) (hb : b < 10) (hn : a ≠ b) (g : bd_G a b true a1)
    (H : ∀ f q a1 a2 a3 a4 a5 a6 a7 a8, bd_G a b true a1 → post 1 (f, q, a1, a2, a3, a4, a5, a6, a7, a8)) : wpX_needed post (f, q, a1, a2, a3, a4, a5, a6, a7, a8) (nI a) (nI b) := by
  unfold wpX_needed
  dsimp only
  exact bd_pair ha hb hn (br_f (by decide) (bd_pw0 ha hb hn g (fun q a2 a3 a4 a5 a8 _ => bd_part ha hb hn g (fun a1 g => bd_pw0 ha hb hn g (fun q a2 a3 a4 a5 a8 _ => br_t (by decide) (bd_join ha hb hn g (fun a1 g => br_f (by decide) (H _ _ _ _ _ _ _ _ _ _ g))))))))
theorem bd_neededN {post : Int32 → St2 → Prop} {f q x y : Int32} {a1 a2 a3 a4 a5 a6 a7 a8 : Nat → Int32} (hN : bd_N x y) (H : post (-1) (f, q, a1, a2, a3, a4, a5, a6, a7, a8)) : wpX_needed post (f, q, a1, a2, a3, a4, a5, a6, a7, a8) x y := by
  unfold wpX_needed
  dsimp only
  exact bd_npair hN (br_t rfl H)
theorem bd_guards {post : Int32 → St2 → Prop} {f q : Int32} {a1 a2 a3 a4 a5 a6 a7 a8 : Nat → Int32} {a b : Nat} {e : Bool} (ha : a < 10) (hb : b < 10) (hn : a ≠ b) (g : bd_G a b e a1)
    (H : ∀ f q a2 a3 a4 a5 a6 a7 a8, post 0 (f, q, a1, a2, a3, a4, a5, a6, a7, a8)) : wpX_guards post (f, q, a1, a2, a3, a4, a5, a6, a7, a8) := by
  unfold wpX_guards
  dsimp only
  refine bd_pw0 ha hb hn g (fun q a2 a3 a4 a5 a8 hM => bd_sp (bd_free ha hb hn g hM) (fun r q a3 a4 a5 a8 hr => ?_))
  have hf := bd_free ha hb hn g hM
  refine pk_loop (fun n i z => wX_guards_15 post r 0 q a1 a2 a3 a4 a5 a6 a7 a8 n z (nI i)) (fun _ z => z = 0) 10 0 0 (by omega) rfl
    (fun n z h => pk_le 10 10 (fun _ => ?_) (fun z => absurd z (by omega)))
    (fun n i z hi h hw => pk_le 10 i (fun z => absurd z (by omega)) (fun _ => br_c (fun c => nm_e (nm_r (nI_1 i) (hw _ ?_))) (fun c => ⟨pk_in i 10 hi, nm_e (nm_r (nI_1 i) (hw _ ?_))⟩)))
  · rw [h, show (0 : Int32) &&& (r ^^^ (-1)) = 0 from bd_ext (fun i hi => by rw [bd_and, bd_0]; rfl)]
    exact H _ _ _ _ _ _ _ _ _
  · rw [h]
    rfl
  · have e1 : bd_t r i = true := by
      cases hb : bd_t r i with
      | false => exact absurd (bd_b0 (by omega) hb) c
      | true => rfl
    rw [hr i hi] at e1
    rw [h, nI_clamp (by omega), hf i hi (of_decide_eq_true e1)]
    rfl
end
section
/-! partOf and parts -/
theorem bd_p17 {post : Int32 → Prop} {J7 : Int32 → Int32 → Prop} {w f q x : Int32} {a1 a2 a3 a4 a5 a6 a7 a8 : Nat → Int32} {k : Nat} (s : Nat → Int32) (h0 : s 0 = x) (hs : ∀ i, i < 10 → s (i + 1) = if bd_t (s i) i = true then s i ||| (a1 i &&& w) else s i) (H : J7 (s 10) (nI (k + 1))) : ∃ n, wX_partOf_17 post J7 w (nI k) f q a1 a2 a3 a4 a5 a6 a7 a8 n x 0 := by
  refine pk_loop (fun n i z => wX_partOf_17 post J7 w (nI k) f q a1 a2 a3 a4 a5 a6 a7 a8 n z (nI i)) (fun i z => z = s i) 10 0 x (by omega) h0.symm
    (fun n z h => pk_le 10 10 (fun _ => nm_r (nI_1 k) (by rw [h]; exact H)) (fun z => absurd z (by omega)))
    (fun n i z hi h hw => pk_le 10 i (fun z => absurd z (by omega)) (fun _ => br_c (fun c => nm_e (nm_r (nI_1 i) (hw _ ?_))) (fun c => ⟨pk_in i 10 hi, nm_e (nm_r (nI_1 i) (hw _ ?_))⟩)))
  · have e1 := (bd_bit (by omega)).mp c
    rw [h] at e1
    rw [hs i hi, if_neg (by rw [e1]; decide), h]
    exact bd_ext (fun t ht => by rw [bd_or, bd_0, Bool.or_false])
  · have e1 : bd_t z i = true := by
      cases hb : bd_t z i with
      | false => exact absurd (bd_b0 (by omega) hb) c
      | true => rfl
    rw [h] at e1
    rw [hs i hi, if_pos e1, h, nI_clamp (by omega)]
theorem bd_p7 {post : Int32 → Prop} {w f q : Int32} {a1 a2 a3 a4 a5 a6 a7 a8 : Nat → Int32} {p : Nat} (r : Nat → Int32) (h0 : r 0 = (1 : Int32) <<< (nI p &&& 31)) (hr : ∀ k, k < 10 → ∃ s : Nat → Int32, s 0 = r k ∧ s 10 = r (k + 1) ∧ ∀ i, i < 10 → s (i + 1) = if bd_t (s i) i = true then s i ||| (a1 i &&& w) else s i) (H : post (r 10)) : wpX_partOf post (f, q, a1, a2, a3, a4, a5, a6, a7, a8) (nI p) w := by
  unfold wpX_partOf
  dsimp only
  refine nm_r h0.symm (pk_loop (fun n k z => wX_partOf_7 post w f q a1 a2 a3 a4 a5 a6 a7 a8 n z (nI k)) (fun k z => z = r k) 10 0 (r 0) (by omega) rfl
    (fun n z h => pk_le 10 10 (fun _ => by rw [h]; exact H) (fun z => absurd z (by omega)))
    (fun n k z hk h hw => pk_le 10 k (fun z => absurd z (by omega)) (fun _ => ?_)))
  obtain ⟨s, s0, s1, s2⟩ := hr k hk
  exact bd_p17 s (by rw [s0, h]) s2 (hw _ s1)
/-- a point without lines -/
theorem bd_po1 {post : Int32 → Prop} {w f q : Int32} {a1 a2 a3 a4 a5 a6 a7 a8 : Nat → Int32} {p : Nat} (hp : p < 10) (hz : a1 p = 0) (H : post ((1 : Int32) <<< (nI p &&& 31))) : wpX_partOf post (f, q, a1, a2, a3, a4, a5, a6, a7, a8) (nI p) w := by
  refine bd_p7 (fun _ => (1 : Int32) <<< (nI p &&& 31)) rfl (fun k hk => ⟨fun _ => (1 : Int32) <<< (nI p &&& 31), rfl, rfl, fun i hi => ?_⟩) H
  dsimp only
  rw [bd_one p hp i (by omega)]
  by_cases h : i = p
  · rw [if_pos (decide_eq_true h), h, hz]
    exact bd_ext (fun t ht => by rw [bd_or, bd_and, bd_0, Bool.false_and, Bool.or_false])
  · rw [if_neg (by rw [decide_eq_false h]; decide)]
theorem bd_stp {z z' v v' c : Int32} {i : Nat} (hz : z = v) (hz' : z' = v') (h : v' = if bd_t v i = true then v ||| c else v) : z' = if bd_t z i = true then z ||| c else z := by
  subst hz
  subst hz'
  exact h
/-- the two ends of the line -/
theorem bd_po2 {post : Int32 → Prop} {w f q : Int32} {a1 a2 a3 a4 a5 a6 a7 a8 : Nat → Int32} {a b : Nat} (ha : a < 10) (hb : b < 10) (hn : a ≠ b) (g : bd_G a b true a1) (hw : bd_t w b = true) (H : post (((1 : Int32) <<< (nI a &&& 31)) ||| ((1 : Int32) <<< (nI b &&& 31)))) : wpX_partOf post (f, q, a1, a2, a3, a4, a5, a6, a7, a8) (nI a) w := by
  have ga := bd_Ga g ha hn
  have gb := bd_Ga (bd_Gs g) hb (Ne.symm hn)
  have hx : ∀ i, i < 32 → bd_t ((1 : Int32) <<< (nI a &&& 31)) i = decide (i = a) := bd_one a ha
  have hy : ∀ i, i < 32 → bd_t (((1 : Int32) <<< (nI a &&& 31)) ||| ((1 : Int32) <<< (nI b &&& 31))) i = (decide (i = a) || decide (i = b)) := fun i hi => by rw [bd_or, bd_one a ha i hi, bd_one b hb i hi]
  generalize he : ((1 : Int32) <<< (nI a &&& 31)) ||| ((1 : Int32) <<< (nI b &&& 31)) = y at H hy
  have fy : ∀ i, i < 10 → y = if bd_t y i = true then y ||| (a1 i &&& w) else y := by
    intro i hi
    rw [hy i (by omega)]
    by_cases h1 : i = a
    · subst h1
      rw [if_pos (by simp)]
      apply bd_ext
      intro t ht
      rw [bd_or, bd_and, ga t ht, hy t ht]
      by_cases h2 : t = b <;> simp [h2]
    · by_cases h2 : i = b
      · subst h2
        rw [if_pos (by simp)]
        apply bd_ext
        intro t ht
        rw [bd_or, bd_and, gb t ht, hy t ht]
        by_cases h3 : t = a <;> simp [h3]
      · rw [if_neg (by simp [h1, h2])]
  refine bd_p7 (fun k => if 0 < k then y else (1 : Int32) <<< (nI a &&& 31)) rfl (fun k hk => ?_) H
  by_cases h0 : 0 < k
  · exact ⟨fun _ => y, (if_pos h0).symm, (if_pos (by omega)).symm, fy⟩
  · refine ⟨fun i => if a < i then y else (1 : Int32) <<< (nI a &&& 31), ?_, ?_, fun i hi => ?_⟩
    · dsimp only
      rw [if_neg h0, if_neg (by omega)]
    · dsimp only
      rw [if_pos ha, if_pos (by omega)]
    · by_cases h1 : a < i
      · exact bd_stp (if_pos h1) (if_pos (show a < i + 1 by omega)) (fy i hi)
      · by_cases h2 : i = a
        · refine bd_stp (if_neg h1) (if_pos (show a < i + 1 by omega)) ?_
          rw [if_pos (by rw [hx i (by omega)]; exact decide_eq_true h2), h2]
          apply bd_ext
          intro t ht
          rw [bd_or, bd_and, ga t ht, hx t ht, hy t ht]
          by_cases h3 : t = b
          · simp [h3, hw]
          · simp [h3]
        · refine bd_stp (if_neg h1) (if_neg (show ¬ a < i + 1 by omega)) ?_
          rw [if_neg (by rw [hx i (by omega), decide_eq_false h2]; decide)]
theorem bd_p15 {post : Int32 → St2 → Prop} {f q : Int32} {a1 a2 a3 a4 a5 a6 a7 a8 : Nat → Int32} {a b : Nat} {e : Bool} (hab : a < b) (hb : b < 10) (g : bd_G a b e a1)
    (H : post (if e = true then 9 else 10) (f, q, a1, a2, a3, a4, a5, a6, a7, a8)) : ∃ n, wX_parts_15 post f q a1 a2 a3 a4 a5 a6 a7 a8 n 1023 0 0 := by
  refine pk_loop (σ := Int32 × Int32) (fun n i s => wX_parts_15 post f q a1 a2 a3 a4 a5 a6 a7 a8 n s.1 s.2 (nI i))
    (fun i s => (∀ t, t < 32 → bd_t s.1 t = (decide (i ≤ t) && (decide (t < 10) && !(e && (decide (t = b) && decide (a < i)))))) ∧ s.2 = nI (i - if (e && decide (b < i)) = true then 1 else 0)) 10 0 (1023, 0) (by omega) ⟨fun t ht => ?_, ?_⟩ ?_ ?_
  · rw [bd_1023 t ht]
    simp
  · simp
    rfl
  · intro n s h
    obtain ⟨l, c⟩ := s
    obtain ⟨h1, h2⟩ := h
    dsimp only at h1 h2 ⊢
    refine pk_le 10 10 (fun _ => ?_) (fun z => absurd z (by omega))
    rw [decide_eq_true hb, Bool.and_true] at h2
    rw [h2]
    cases e <;> exact H
  · intro n i s hi h hw
    obtain ⟨l, c⟩ := s
    have hw' := fun l c h1 h2 => hw (l, c) ⟨h1, h2⟩
    obtain ⟨h1, h2⟩ := h
    dsimp only at h1 h2 hw' ⊢
    refine pk_le 10 i (fun z => absurd z (by omega)) (fun _ => ?_)
    by_cases hc : e = true ∧ i = b
    · obtain ⟨he, hib⟩ := hc
      subst he
      subst hib
      refine br_t (bd_b0 (by omega) ?_) (nm_r (nI_1 i) (hw' _ _ (fun t ht => ?_) ?_))
      · rw [h1 i (by omega)]
        simp [hab]
      · rw [h1 t ht, decide_eq_true hab, decide_eq_true (show a < i + 1 by omega)]
        by_cases h3 : t = i
        · simp [h3]
        · rw [show decide (i + 1 ≤ t) = decide (i ≤ t) from decide_eq_decide.mpr (by omega)]
      · rw [h2]
        simp
    · have hbit : bd_t l i = true := by
        rw [h1 i (by omega)]
        cases e with
        | false => simp [hi]
        | true =>
          have : i ≠ b := fun z => hc ⟨rfl, z⟩
          simp [hi, this]
      have hcnt : c + 1 = nI (i + 1 - if (e && decide (b < i + 1)) = true then 1 else 0) := by
        rw [h2, nI_1]
        cases e with
        | false => simp
        | true =>
          have : i ≠ b := fun z => hc ⟨rfl, z⟩
          rw [show decide (b < i + 1) = decide (b < i) from decide_eq_decide.mpr (by omega)]
          by_cases h3 : b < i
          · rw [decide_eq_true h3, Bool.and_true, if_pos rfl]
            congr 1
            omega
          · rw [decide_eq_false h3, Bool.and_false, if_neg (by decide)]
            rfl
      refine br_f (bd_b1 (by omega) hbit) (nm_e ?_)
      by_cases hc2 : e = true ∧ i = a
      · obtain ⟨he, hia⟩ := hc2
        subst he
        subst hia
        refine bd_po2 hi hb (by omega) g ?_ (nm_e (nm_r (nI_1 i) (hw' _ _ (fun t ht => ?_) hcnt)))
        · rw [h1 b (by omega)]
          simp [hb]
          omega
        · rw [bd_and, bd_not _ ht, bd_or, bd_one i hi t ht, bd_one b hb t ht, h1 t ht, decide_eq_false (show ¬ i < i by omega), decide_eq_true (show i < i + 1 by omega)]
          by_cases h3 : t = i
          · rw [decide_eq_false (show ¬ i + 1 ≤ t by omega)]
            simp [h3]
          · rw [show decide (i + 1 ≤ t) = decide (i ≤ t) from decide_eq_decide.mpr (by omega)]
            by_cases h4 : t = b <;> simp [h3, h4]
      · have hne : e = true → i ≠ a ∧ i ≠ b := fun z => ⟨fun w => hc2 ⟨z, w⟩, fun w => hc ⟨z, w⟩⟩
        refine bd_po1 hi (bd_Gz g hi hne) (nm_e (nm_r (nI_1 i) (hw' _ _ (fun t ht => ?_) hcnt)))
        rw [bd_and, bd_not _ ht, bd_one i hi t ht, h1 t ht]
        by_cases h3 : t = i
        · rw [decide_eq_false (show ¬ i + 1 ≤ t by omega)]
          simp [h3]
        · rw [show decide (i + 1 ≤ t) = decide (i ≤ t) from decide_eq_decide.mpr (by omega), decide_eq_false h3]
          cases e with
          | false => simp
          | true =>
            have := (hne rfl).1
            rw [show decide (a < i + 1) = decide (a < i) from decide_eq_decide.mpr (by omega)]
            simp
theorem bd_parts {post : Int32 → St2 → Prop} {f q : Int32} {a1 a2 a3 a4 a5 a6 a7 a8 : Nat → Int32} {a b : Nat} {e : Bool} (ha : a < 10) (hb : b < 10) (hn : a ≠ b) (g : bd_G a b e a1)
    (H : ∀ f q a2 a3 a4 a5 a6 a7 a8, post (if e = true then 9 else 10) (f, q, a1, a2, a3, a4, a5, a6, a7, a8)) : wpX_parts post (f, q, a1, a2, a3, a4, a5, a6, a7, a8) := by
  unfold wpX_parts
  dsimp only
  refine bd_guards ha hb hn g (fun f q a2 a3 a4 a5 a6 a7 a8 => nm_r (e' := 1023) (by decide) ?_)
  by_cases hab : a < b
  · exact bd_p15 hab hb g (H _ _ _ _ _ _ _ _ _)
  · exact bd_p15 (a := b) (b := a) (by omega) ha (bd_Gs g) (H _ _ _ _ _ _ _ _ _)
end
section
/-! the law: the road without a pair (n), the road with one (y) -/
theorem bd_297 {post : Int32 → St0 → Prop} {mc ms kc ks : Nat} {z0 z1 f q : Int32} {a1 a2 a3 a4 a5 a6 a7 a8 : Nat → Int32} {a b : Nat} (hP : post 1 ()) (ha : a < 10) (hb : b < 10) (hn : a ≠ b) (g : bd_G a b false a1) (hz : z1 = z0) : wL_lawOf_297 post mc ms z0 z1 kc ks f q a1 a2 a3 a4 a5 a6 a7 a8 := by
  unfold wL_lawOf_297
  exact br_t hz (bd_most ha hb hn g (fun f q a2 a3 a4 a5 a6 a7 a8 => br_t rfl hP))
theorem bd_n275 {post : Int32 → St0 → Prop} {mc ms kc ks : Nat} {x y z0 z1 f q : Int32} {a1 a2 a3 a4 a5 a6 a7 a8 : Nat → Int32} {a b : Nat} (hP : post 1 ()) (ha : a < 10) (hb : b < 10) (hn : a ≠ b) (g : bd_G a b false a1) (hN : bd_N x y) (hz : z1 = z0) : wL_lawOf_275 post mc ms x y 0 z0 z1 kc ks f q a1 a2 a3 a4 a5 a6 a7 a8 := by
  unfold wL_lawOf_275
  exact br_t hz (bd_partN hN (br_t rfl (bd_297 hP ha hb hn g rfl)))
theorem bd_n247 {post : Int32 → St0 → Prop} {mc ms kc ks : Nat} {x y z0 z1 f q : Int32} {a1 a2 a3 a4 a5 a6 a7 a8 : Nat → Int32} {a b : Nat} (hP : post 1 ()) (ha : a < 10) (hb : b < 10) (hn : a ≠ b) (g : bd_G a b false a1) (hN : bd_N x y) (hz : z1 = z0) : wL_lawOf_247 post mc ms x y 0 z0 z1 kc ks f q a1 a2 a3 a4 a5 a6 a7 a8 := by
  unfold wL_lawOf_247
  exact br_t hz (bd_guards ha hb hn g (fun f q a2 a3 a4 a5 a6 a7 a8 => br_t rfl (bd_parts ha hb hn g (fun f q a2 a3 a4 a5 a6 a7 a8 => br_t rfl (bd_n275 hP ha hb hn g hN rfl)))))
theorem bd_n193 {post : Int32 → St0 → Prop} {mc ms kc ks : Nat} {x y s z0 z1 f q : Int32} {a1 a2 a3 a4 a5 a6 a7 a8 : Nat → Int32} {a b : Nat} (hP : post 1 ()) (ha : a < 10) (hb : b < 10) (hn : a ≠ b) (g : bd_G a b false a1) (hN : bd_N x y) (hz : z1 = z0) : wL_lawOf_193 post mc ms x y s 0 z0 z1 kc ks f q a1 a2 a3 a4 a5 a6 a7 a8 := by
  unfold wL_lawOf_193
  refine br_t hz (br_t rfl ?_)
  unfold wL_lawOf_223 wL_lawOf_224
  refine bd_mostW ha hb hn g (fun f q a2 a3 a4 a5 a6 a7 a8 => br_t rfl ?_)
  unfold wL_lawOf_246
  exact bd_n247 hP ha hb hn g hN rfl
theorem bd_n153 {post : Int32 → St0 → Prop} {mc ms kc ks : Nat} {x y s z0 z1 f q : Int32} {a1 a2 a3 a4 a5 a6 a7 a8 : Nat → Int32} {a b : Nat} (hP : post 1 ()) (ha : a < 10) (hb : b < 10) (hn : a ≠ b) (g : bd_G a b false a1) (hN : bd_N x y) (hz : z1 = z0) : wL_lawOf_153 post mc ms x y s 0 z0 z1 kc ks f q a1 a2 a3 a4 a5 a6 a7 a8 := by
  unfold wL_lawOf_153
  refine br_t hz (bd_usableN (bd_Ns hN) (br_t rfl ?_))
  unfold wL_lawOf_173
  exact br_t rfl (bd_neededN hN (br_t rfl (bd_n193 hP ha hb hn g hN rfl)))
theorem bd_n121 {post : Int32 → St0 → Prop} {mc ms kc ks : Nat} {x y p s f q : Int32} {a1 a2 a3 a4 a5 a6 a7 a8 : Nat → Int32} {a b : Nat} (hP : post 1 ()) (ha : a < 10) (hb : b < 10) (hn : a ≠ b) (g : bd_G a b false a1) (hN : bd_N x y) : wL_lawOf_121 post mc ms x y p s 0 0 kc ks f q a1 a2 a3 a4 a5 a6 a7 a8 := by
  unfold wL_lawOf_121
  by_cases h0 : p < 0
  · exact bd_spareN (Or.inl h0) (br_t h0 (bd_n153 hP ha hb hn g hN rfl))
  · by_cases h9 : p ≤ 9
    · obtain ⟨k, hk, rfl⟩ := nI_of2 (n := 9) (by decide) h0 h9
      exact bd_spare ha hb hn g (by omega) (fun f q a2 a3 a4 a5 a6 a7 a8 => br_f h0 (br_t h9 (br_t rfl (bd_n153 hP ha hb hn g hN rfl))))
    · exact bd_spareN (Or.inr h9) (br_f h0 (br_f h9 (bd_n153 hP ha hb hn g hN rfl)))
theorem bd_n39 {post : Int32 → St0 → Prop} {mc ms kc ks : Nat} {x y p s f q : Int32} {a1 a2 a3 a4 a5 a6 a7 a8 : Nat → Int32} {a b : Nat} (hP : post 1 ()) (ha : a < 10) (hb : b < 10) (hn : a ≠ b) (g : bd_G a b false a1) (hN : bd_N x y) : wL_lawOf_39 post mc ms x y p s 0 kc ks f q a1 a2 a3 a4 a5 a6 a7 a8 := by
  unfold wL_lawOf_39
  refine bd_joinN hN (br_t rfl ?_)
  unfold wL_lawOf_58
  refine br_t rfl (bd_joinN (bd_Ns hN) (br_t rfl ?_))
  unfold wL_lawOf_78
  refine br_t rfl (bd_most ha hb hn g (fun f q a2 a3 a4 a5 a6 a7 a8 => br_t rfl ?_))
  unfold wL_lawOf_96
  refine br_t rfl (br_t rfl ?_)
  unfold wL_lawOf_120
  exact bd_n121 hP ha hb hn g hN
theorem bd_y275 {post : Int32 → St0 → Prop} {mc ms kc ks : Nat} {z0 z1 f q : Int32} {a1 a2 a3 a4 a5 a6 a7 a8 : Nat → Int32} {a b : Nat} (hP : post 1 ()) (ha : a < 10) (hb : b < 10) (hn : a ≠ b) (g : bd_G a b true a1) (hz : z1 = z0) : wL_lawOf_275 post mc ms (nI a) (nI b) 1 z0 z1 kc ks f q a1 a2 a3 a4 a5 a6 a7 a8 := by
  unfold wL_lawOf_275
  exact br_t hz (bd_part ha hb hn g (fun a1 g => br_f (by decide) (bd_297 hP ha hb hn g rfl)))
theorem bd_y247 {post : Int32 → St0 → Prop} {mc ms kc ks : Nat} {z0 z1 f q : Int32} {a1 a2 a3 a4 a5 a6 a7 a8 : Nat → Int32} {a b : Nat} (hP : post 1 ()) (ha : a < 10) (hb : b < 10) (hn : a ≠ b) (g : bd_G a b true a1) (hz : z1 = z0) : wL_lawOf_247 post mc ms (nI a) (nI b) 1 z0 z1 kc ks f q a1 a2 a3 a4 a5 a6 a7 a8 := by
  unfold wL_lawOf_247
  exact br_t hz (bd_guards ha hb hn g (fun f q a2 a3 a4 a5 a6 a7 a8 => br_t rfl (bd_parts ha hb hn g (fun f q a2 a3 a4 a5 a6 a7 a8 => br_f (by decide) (bd_y275 hP ha hb hn g rfl)))))
theorem bd_y224 {post : Int32 → St0 → Prop} {mc ms kc ks : Nat} {s z0 f q : Int32} {a1 a2 a3 a4 a5 a6 a7 a8 : Nat → Int32} {a b : Nat} (hP : post 1 ()) (ha : a < 10) (hb : b < 10) (hn : a ≠ b) (g : bd_G a b true a1) (hz : (z0 = 0 ∧ bd_t s a = false ∧ bd_t s b = false) ∨ (z0 = 1 ∧ (!bd_t s a && !bd_t s b) = false)) : wL_lawOf_224 post mc ms (nI a) (nI b) s 1 z0 kc ks f q a1 a2 a3 a4 a5 a6 a7 a8 := by
  unfold wL_lawOf_224
  refine bd_mostW ha hb hn g (fun f q a2 a3 a4 a5 a6 a7 a8 => br_f (by decide) ?_)
  rcases hz with ⟨h1, h2, h3⟩ | ⟨h1, h2⟩
  · refine br_t h1 (bd_y247 hP ha hb hn g ?_)
    rw [h2, h3]
    rfl
  · refine br_f (by rw [h1]; decide) ?_
    unfold wL_lawOf_246
    refine bd_y247 hP ha hb hn g ?_
    rw [h2]
    rfl
theorem bd_y193 {post : Int32 → St0 → Prop} {mc ms kc ks : Nat} {s z0 z1 f q : Int32} {a1 a2 a3 a4 a5 a6 a7 a8 : Nat → Int32} {a b : Nat} (hP : post 1 ()) (ha : a < 10) (hb : b < 10) (hn : a ≠ b) (g : bd_G a b true a1) (hz : z1 = z0) : wL_lawOf_193 post mc ms (nI a) (nI b) s 1 z0 z1 kc ks f q a1 a2 a3 a4 a5 a6 a7 a8 := by
  unfold wL_lawOf_193
  refine br_t hz (br_f (by decide) (br_c (fun h1 => br_c (fun h2 => ?_) (fun h2 => ?_)) (fun h1 => ?_)))
  · unfold wL_lawOf_223
    exact bd_y224 hP ha hb hn g (Or.inl ⟨rfl, (bd_sbit (by omega)).mp h1, (bd_sbit (by omega)).mp h2⟩)
  · unfold wL_lawOf_219
    refine bd_y224 hP ha hb hn g (Or.inr ⟨rfl, ?_⟩)
    cases h3 : bd_t s b with
    | false => exact absurd ((bd_sbit (by omega)).mpr h3) h2
    | true => exact Bool.and_false _
  · unfold wL_lawOf_219
    refine bd_y224 hP ha hb hn g (Or.inr ⟨rfl, ?_⟩)
    cases h3 : bd_t s a with
    | false => exact absurd ((bd_sbit (by omega)).mpr h3) h1
    | true => rfl
theorem bd_y153 {post : Int32 → St0 → Prop} {mc ms kc ks : Nat} {s z0 z1 f q : Int32} {a1 a2 a3 a4 a5 a6 a7 a8 : Nat → Int32} {a b : Nat} (hP : post 1 ()) (ha : a < 10) (hb : b < 10) (hn : a ≠ b) (g : bd_G a b true a1) (hz : z1 = z0) : wL_lawOf_153 post mc ms (nI a) (nI b) s 1 z0 z1 kc ks f q a1 a2 a3 a4 a5 a6 a7 a8 := by
  unfold wL_lawOf_153
  refine br_t hz (bd_usable hb ha (Ne.symm hn) (bd_Gs g) (fun f q a2 a3 a4 a5 a6 a7 a8 => br_f (by decide) ?_))
  unfold wL_lawOf_173
  exact br_t rfl (bd_needed ha hb hn g (fun f q a1 a2 a3 a4 a5 a6 a7 a8 g => br_f (by decide) (bd_y193 hP ha hb hn g rfl)))
theorem bd_y121 {post : Int32 → St0 → Prop} {mc ms kc ks : Nat} {p s z0 f q : Int32} {a1 a2 a3 a4 a5 a6 a7 a8 : Nat → Int32} {a b : Nat} (hP : post 1 ()) (ha : a < 10) (hb : b < 10) (hn : a ≠ b) (g : bd_G a b true a1) (hz : (z0 = 1 ∧ (p = nI a ∨ p = nI b)) ∨ (z0 = 0 ∧ ¬ p = nI a ∧ ¬ p = nI b)) : wL_lawOf_121 post mc ms (nI a) (nI b) p s 1 z0 kc ks f q a1 a2 a3 a4 a5 a6 a7 a8 := by
  unfold wL_lawOf_121
  by_cases h0 : p < 0
  · exact bd_spareN (Or.inl h0) (br_t h0 (bd_y153 hP ha hb hn g rfl))
  · by_cases h9 : p ≤ 9
    · obtain ⟨k, hk, rfl⟩ := nI_of2 (n := 9) (by decide) h0 h9
      rw [nI_eq (by omega) (by omega), nI_eq (by omega) (by omega)] at hz
      refine bd_spare ha hb hn g (show k < 10 by omega) (fun f q a2 a3 a4 a5 a6 a7 a8 => br_f h0 (br_t h9 ?_))
      rcases hz with ⟨h1, h2⟩ | ⟨h1, h2, h3⟩
      · refine br_f (by rw [h1]; decide) (bd_y153 hP ha hb hn g ?_)
        rw [if_pos (by rcases h2 with h2 | h2 <;> simp [h2])]
      · refine br_t h1 (bd_y153 hP ha hb hn g ?_)
        rw [if_neg (by simp [h2, h3])]
    · exact bd_spareN (Or.inr h9) (br_f h0 (br_f h9 (bd_y153 hP ha hb hn g rfl)))
theorem bd_y39 {post : Int32 → St0 → Prop} {mc ms kc ks : Nat} {p s f q : Int32} {a1 a2 a3 a4 a5 a6 a7 a8 : Nat → Int32} {a b : Nat} (hP : post 1 ()) (ha : a < 10) (hb : b < 10) (hn : a ≠ b) (g : bd_G a b false a1) : wL_lawOf_39 post mc ms (nI a) (nI b) p s 1 kc ks f q a1 a2 a3 a4 a5 a6 a7 a8 := by
  unfold wL_lawOf_39
  refine bd_join ha hb hn g (fun a1 g => br_f (by decide) ?_)
  unfold wL_lawOf_58
  refine br_t rfl (bd_join hb ha (Ne.symm hn) (bd_Gs g) (fun a1 g => br_f (by decide) ?_))
  have g := bd_Gs g
  unfold wL_lawOf_78
  refine br_t rfl (bd_most ha hb hn g (fun f q a2 a3 a4 a5 a6 a7 a8 => br_f (by decide) ?_))
  unfold wL_lawOf_96
  refine br_t rfl (br_f (by decide) (br_c (fun h1 => ?_) (fun h1 => br_c (fun h2 => ?_) (fun h2 => ?_))))
  · unfold wL_lawOf_116
    exact bd_y121 hP ha hb hn g (Or.inl ⟨rfl, Or.inl h1⟩)
  · unfold wL_lawOf_116
    exact bd_y121 hP ha hb hn g (Or.inl ⟨rfl, Or.inr h2⟩)
  · unfold wL_lawOf_120
    exact bd_y121 hP ha hb hn g (Or.inr ⟨rfl, h1, h2⟩)
theorem bd_lawOf {post : Int32 → St0 → Prop} (hP : post 1 ()) (x y p s : Int32) : wpL_lawOf post 54 864 () x y p s := by
  have g0 : ∀ a b, bd_G a b false (fun _ => 0) := fun a b => bd_G0 (fun _ _ => rfl)
  have n38 : ∀ kc ks f q a2 a3 a4 a5 a6 a7 a8, bd_N x y → wL_lawOf_38 post 54 864 x y p s kc ks f q (fun _ => 0) a2 a3 a4 a5 a6 a7 a8 := by
    intro kc ks f q a2 a3 a4 a5 a6 a7 a8 hN
    unfold wL_lawOf_38
    exact bd_n39 hP (a := 0) (b := 1) (by decide) (by decide) (by decide) (g0 0 1) hN
  unfold wpL_lawOf
  refine ⟨by decide, by decide, 8, 80, by decide, by decide, ?_⟩
  unfold wpX_init
  dsimp only
  refine ⟨by decide, by decide, by decide, by decide, by decide, by decide, by decide, by decide, by decide, by decide, by decide, by decide, by decide, by decide, by decide, by decide, ?_⟩
  refine br_c (fun h => n38 _ _ _ _ _ _ _ _ _ _ _ (Or.inl h)) (fun h1 => br_c (fun h => n38 _ _ _ _ _ _ _ _ _ _ _ (Or.inr (Or.inl h))) (fun h2 => br_c (fun h => n38 _ _ _ _ _ _ _ _ _ _ _ (Or.inr (Or.inr (Or.inl h)))) (fun h3 => br_c (fun h => n38 _ _ _ _ _ _ _ _ _ _ _ (Or.inr (Or.inr (Or.inr (Or.inl h))))) (fun h4 => br_c (fun h => n38 _ _ _ _ _ _ _ _ _ _ _ (Or.inr (Or.inr (Or.inr (Or.inr h))))) (fun h5 => ?_)))))
  obtain ⟨a, ha, rfl⟩ := nI_of2 (n := 9) (by decide) h1 (Int32.not_lt.mp h2)
  obtain ⟨b, hb, rfl⟩ := nI_of2 (n := 9) (by decide) h3 (Int32.not_lt.mp h4)
  exact bd_y39 hP (by omega) (by omega) (fun z => h5 (by rw [z])) (g0 a b)
theorem bd_cell {post : Int32 → Prop} {L k : Nat} {xs : Nat → Int32} {x : Int32} (hL : L ≤ 4) (hk : k < 4) (H : ∀ v, post v) (hx : x = nI k := by rfl) : wpL_cellAt post L xs () x := by
  subst hx
  exact pk_le L k (fun _ => H _) (fun z => ⟨pk_in k L z, H _⟩)
theorem i_vc (xs : Nat → Int32) (L : Nat) (hL : L ≤ 4) : wpL_law (fun r => r = 1) L xs := by
  unfold wpL_law
  exact bd_cell (k := 0) hL (by decide) (fun v0 => bd_cell (k := 1) hL (by decide) (fun v1 => bd_cell (k := 2) hL (by decide) (fun v2 => bd_cell (k := 3) hL (by decide) (fun v3 => ⟨54, 864, by decide, by decide, bd_lawOf rfl v0 v1 v2 v3⟩))))
end
