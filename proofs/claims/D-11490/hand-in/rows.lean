section
/-! bits of an Int32 (the first rows: the family 'Int32 by its bits' of the kit's BITS.to-paste, under names of our own) -/
def sy_t (x : Int32) (i : Nat) : Bool := x.toBitVec.getLsbD i
theorem sy_ext {x y : Int32} (h : ∀ i, i < 32 → sy_t x i = sy_t y i) : x = y := Int32.toBitVec_inj.mp (BitVec.eq_of_getLsbD_eq (fun i hi => h i hi))
theorem sy_or (x y : Int32) (i : Nat) : sy_t (x ||| y) i = (sy_t x i || sy_t y i) := by unfold sy_t; rw [Int32.toBitVec_or, BitVec.getLsbD_or]
theorem sy_and (x y : Int32) (i : Nat) : sy_t (x &&& y) i = (sy_t x i && sy_t y i) := by unfold sy_t; rw [Int32.toBitVec_and, BitVec.getLsbD_and]
theorem sy_xor (x y : Int32) (i : Nat) : sy_t (x ^^^ y) i = (sy_t x i ^^ sy_t y i) := by unfold sy_t; rw [Int32.toBitVec_xor, BitVec.getLsbD_xor]
theorem sy_all : ∀ i, i < 16 → sy_t 65535 i = true := by decide +kernel
theorem sy_m1 : ∀ i, i < 32 → sy_t (-1) i = true := by decide +kernel
theorem sy_one1 : ∀ i, i < 32 → sy_t 1 i = decide (i = 0) := by decide +kernel
theorem sy_0 (i : Nat) : sy_t 0 i = false := BitVec.getLsbD_zero
theorem sy_sl : ∀ n, n < 32 → ((nI n &&& 31).toBitVec.smod 32).toNat = n := by decide +kernel
theorem sy_shl (n : Nat) (hn : n < 32) (x : Int32) {i : Nat} (hi : i < 32) : sy_t (x <<< (nI n &&& 31)) i = (decide (n ≤ i) && sy_t x (i - n)) := by
  unfold sy_t
  rw [Int32.toBitVec_shiftLeft]
  show (x.toBitVec <<< ((nI n &&& 31).toBitVec.smod 32).toNat).getLsbD i = _
  rw [sy_sl n hn, BitVec.getLsbD_shiftLeft]
  rcases Nat.lt_or_ge i n with h | h
  · simp [h, Nat.not_le.mpr h]
  · simp [hi, h, Nat.not_lt.mpr h]
theorem sy_sshr (n : Nat) (hn : n < 32) (x : Int32) {i : Nat} (hi : i < 32) : sy_t (x >>> (nI n &&& 31)) i = if n + i < 32 then sy_t x (n + i) else sy_t x 31 := by
  unfold sy_t
  rw [Int32.toBitVec_shiftRight]
  show (x.toBitVec.sshiftRight ((nI n &&& 31).toBitVec.smod 32).toNat).getLsbD i = _
  rw [sy_sl n hn, BitVec.getLsbD_sshiftRight, BitVec.msb_eq_getLsbD_last]
  simp [hi]
/-- a truth value as the program holds it -/
def sy_I (b : Bool) : Int32 := match b with | true => 1 | false => 0
theorem sy_br {b : Bool} {A B : Prop} (f : b = false → A) (g : b = true → B) : (sy_I b = 0 → A) ∧ (¬ sy_I b = 0 → B) := by
  cases b
  · exact ⟨fun _ => f rfl, fun h => absurd rfl h⟩
  · exact ⟨fun h => absurd h (by decide), fun _ => g rfl⟩
theorem sy_one (y : Int32) : y &&& 1 = sy_I (sy_t y 0) := by
  apply sy_ext
  intro i hi
  rw [sy_and, sy_one1 i hi]
  by_cases e : i = 0
  · rw [e]
    cases h : sy_t y 0 <;> decide
  · rw [decide_eq_false e, Bool.and_false]
    cases h : sy_t y 0
    · exact (sy_0 i).symm
    · show false = sy_t 1 i
      rw [sy_one1 i hi, decide_eq_false e]
/-- what the program reads of a mask: one bit -/
theorem sy_bit (m : Int32) {j : Nat} (hj : j < 32) : (m >>> (nI j &&& 31)) &&& 1 = sy_I (sy_t m j) := by
  rw [sy_one, sy_sshr j hj m (by omega)]
  rw [if_pos (show j + 0 < 32 by omega)]
  rfl
/-- the bit that the program sets or takes away -/
def sy_B (k : Nat) : Int32 := (1 : Int32) <<< (nI k &&& 31)
theorem sy_tB {k i : Nat} (hk : k < 32) (hi : i < 32) : sy_t (sy_B k) i = decide (i = k) := by
  unfold sy_B
  rw [sy_shl k hk 1 hi, sy_one1 (i - k) (by omega)]
  by_cases e : i = k
  · rw [decide_eq_true e, decide_eq_true (show k ≤ i by omega), decide_eq_true (show i - k = 0 by omega)]
    rfl
  · rw [decide_eq_false e]
    rcases Nat.lt_or_ge i k with h | h
    · rw [decide_eq_false (show ¬ k ≤ i by omega)]
      rfl
    · rw [decide_eq_false (show ¬ i - k = 0 by omega), Bool.and_false]
theorem sy_on (m : Int32) {k i : Nat} (hk : k < 32) (hi : i < 32) : sy_t (m ||| sy_B k) i = (sy_t m i || decide (i = k)) := by
  rw [sy_or, sy_tB hk hi]
theorem sy_off (m : Int32) {k i : Nat} (hk : k < 32) (hi : i < 32) : sy_t (m &&& (sy_B k ^^^ (-1))) i = (sy_t m i && !decide (i = k)) := by
  rw [sy_and, sy_xor, sy_tB hk hi, sy_m1 i hi, Bool.xor_true]
/-- how many of the first n are counted -/
def sy_cnt (d : Nat → Bool) : Nat → Nat
  | 0 => 0
  | n + 1 => sy_cnt d n + (d n).toNat
theorem sy_cnt_le (d : Nat → Bool) (n : Nat) : sy_cnt d n ≤ n := by
  induction n with
  | zero => exact Nat.le_refl 0
  | succ n ih =>
    show sy_cnt d n + (d n).toNat ≤ n + 1
    have h := Bool.toNat_le (d n)
    omega
theorem sy_cnt_t {d : Nat → Bool} {n : Nat} (h : d n = true) : sy_cnt d (n + 1) = sy_cnt d n + 1 := by
  show sy_cnt d n + (d n).toNat = _
  rw [h]
  rfl
theorem sy_cnt_f {d : Nat → Bool} {n : Nat} (h : d n = false) : sy_cnt d (n + 1) = sy_cnt d n := by
  show sy_cnt d n + (d n).toNat = _
  rw [h]
  rfl
theorem sy_cnt0 (n : Nat) : sy_cnt (fun _ => false) n = 0 := by
  induction n with
  | zero => rfl
  | succ n ih => rw [sy_cnt_f rfl, ih]
theorem sy_cnt2 : ∀ k, k < 16 → ∀ l, l < 16 → k ≠ l → sy_cnt (fun j => decide (j = k) || decide (j = l)) 16 = 2 := by decide +kernel
end
section
/-! the methods, one by one -/
section
variable {m c t : Int32} {a1 a2 a3 a4 a5 a6 a7 a8 a9 a10 a11 : Nat → Int32}
theorem sy_has {post : Int32 → Prop} {x : Int32} {j : Nat} (hj : j < 32) (b : Bool) (hb : sy_t x j = b) (h : post (sy_I b)) : wpX_has post () x (nI j) := by
  unfold wpX_has
  rw [sy_bit x hj, hb]
  cases b
  · exact br_f (by decide) h
  · exact br_t rfl h
/-- is it a file -/
def sy_F (x : Int32) (b : Bool) : Prop := (b = true ∧ ∃ k : Nat, k < 16 ∧ x = nI k) ∨ (b = false ∧ (x < 0 ∨ (¬ x < 0 ∧ 15 < x)))
theorem sy_F_k {k : Nat} (hk : k < 16) : sy_F (nI k) true := Or.inl ⟨rfl, k, hk, rfl⟩
theorem sy_isF {post : Int32 → Prop} {x : Int32} {b : Bool} (hf : sy_F x b) (h : post (sy_I b)) : wpX_isFile post () x := by
  unfold wpX_isFile
  rcases hf with ⟨e, k, hk, ex⟩ | ⟨e, hx⟩
  · rw [e] at h
    rw [ex]
    exact pk_lt k 0 (fun z => absurd z (by omega)) (fun _ => pk_lt 15 k (fun z => absurd z (by omega)) (fun _ => h))
  · rw [e] at h
    rcases hx with hx | ⟨h1, h2⟩
    · exact br_t hx h
    · exact br_f h1 (br_t h2 h)
/-- setLive's loop: every point notes the file -/
theorem sy_77 {post : St2 → Prop} {x4 : Int32} (H : ∀ b : Nat → Int32, b 0 = a9 0 ||| x4 → post (m, c, t, a1, a2, a3, a4, a5, a6, a7, a8, b, a10, a11)) : ∃ n, wX_setLive_77 post x4 m c t n 0 a1 a2 a3 a4 a5 a6 a7 a8 a9 a10 a11 :=
  pk_loop (fun n i s => wX_setLive_77 post x4 m c t n (nI i) a1 a2 a3 a4 a5 a6 a7 a8 s a10 a11) (fun i s => s 0 = if i = 0 then a9 0 else a9 0 ||| x4) 14 0 a9 (by omega) (if_pos rfl).symm
    (fun n s h => pk_le 14 14 (fun _ => H s (h.trans (if_neg (by decide)))) (fun z => absurd z (by omega)))
    (fun n i s hi h hw => pk_le 14 i (fun z => absurd z (by omega)) (fun _ => ⟨pk_in i 14 hi, pk_in i 14 hi, nm_e (nm_r (nI_1 i) (hw _ (by
      rw [nI_clamp (by omega), if_neg (by omega)]
      by_cases e : i = 0
      · rw [e, pk_us]
        rw [e, if_pos rfl] at h
        rw [h]
      · rw [pk_un (fun z => e z.symm), h, if_neg e])))⟩))
theorem sy_setOn {post : St2 → Prop} {k : Nat} (hk : k < 16) {v : Int32} (hb : sy_t m k = false) (H : ∀ b : Nat → Int32, b 0 = a9 0 ||| sy_B k → post (m ||| sy_B k, c, t, upd a1 k v, a2, a3, a4, a5, a6, a7, a8, b, a10, a11)) : wpX_setLive post (m, c, t, a1, a2, a3, a4, a5, a6, a7, a8, a9, a10, a11) (nI k) 1 v := by
  unfold wpX_setLive
  dsimp only
  refine sy_has (by omega) false hb (br_f (by decide) ?_)
  unfold wX_setLive_27
  refine nm_e (br_f (by decide) ?_)
  unfold wX_setLive_56
  exact br_f (by decide) ⟨pk_in k 16 hk, nm_r (by rw [nI_clamp (by omega)]) (sy_77 H)⟩
theorem sy_setOff {post : St2 → Prop} {k : Nat} (hk : k < 16) {v : Int32} (hb : sy_t m k = true) (H : ∀ b : Nat → Int32, b 0 = a9 0 ||| sy_B k → post (m &&& (sy_B k ^^^ (-1)), c, t, upd a1 k 0, a2, a3, a4, a5, a6, a7, a8, b, a10, a11)) : wpX_setLive post (m, c, t, a1, a2, a3, a4, a5, a6, a7, a8, a9, a10, a11) (nI k) 0 v := by
  unfold wpX_setLive
  dsimp only
  refine sy_has (by omega) true hb (br_f (by decide) ?_)
  unfold wX_setLive_27
  refine nm_e (br_t rfl ?_)
  unfold wX_setLive_56
  exact br_t rfl ⟨pk_in k 16 hk, nm_r (by rw [nI_clamp (by omega)]) (sy_77 H)⟩
theorem sy_put {post : Int32 → St2 → Prop} {k : Nat} (hk : k < 16) {v : Int32} (hb : sy_t m k = false) (H : ∀ b : Nat → Int32, b 0 = a9 0 ||| sy_B k → post 0 (m ||| sy_B k, c, t, upd a1 k v, a2, a3, a4, a5, a6, a7, a8, b, a10, a11)) : wpX_put post (m, c, t, a1, a2, a3, a4, a5, a6, a7, a8, a9, a10, a11) (nI k) v := by
  unfold wpX_put
  dsimp only
  refine sy_isF (sy_F_k hk) (br_f (by decide) (nm_r (e' := 0) ?_ ?_))
  · rw [sy_bit m (by omega), hb]
    rfl
  · exact sy_setOn hk hb H
theorem sy_put_no {post : Int32 → St2 → Prop} {x v : Int32} (hf : sy_F x false) (H : post (-1) (m, c, t, a1, a2, a3, a4, a5, a6, a7, a8, a9, a10, a11)) : wpX_put post (m, c, t, a1, a2, a3, a4, a5, a6, a7, a8, a9, a10, a11) x v := by
  unfold wpX_put
  dsimp only
  exact sy_isF hf (br_t rfl H)
theorem sy_ix (i : Nat) : (16 * (0 : Int32)) + nI i = nI i := by
  show nI 0 + nI i = nI i
  rw [nI_add, Nat.zero_add]
theorem sy_83 {post : Int32 → St2 → Prop} (h4 : a4 0 = 65535)
    (H : ∀ b2 b6 b7 b8 b9 b10 : Nat → Int32, b2 0 = 0 → (∀ j, j < 16 → b6 j = a1 j) → b9 0 = 0 → post 0 (m, 1, t, a1, b2, a3, a4, a5, b6, b7, b8, b9, b10, a11)) :
    ∃ n, wX_take_83 post 0 m 0 t n 0 a1 a2 a3 a4 a5 a6 a7 a8 a9 a10 a11 := by
  refine pk_loop (fun n i s => wX_take_83 post 0 m 0 t n (nI i) a1 a2 a3 a4 a5 s a7 a8 a9 a10 a11) (fun i s => ∀ j, j < i → s j = a1 j) 16 0 a6 (by omega) (fun j hj => absurd hj (by omega)) ?_ ?_
  · intro n s h
    refine pk_le 16 16 (fun _ => ?_) (fun z => absurd z (by omega))
    refine ⟨pk_in 0 14 (by omega), fun b7 _ => ⟨pk_in 0 14 (by omega), fun b8 _ => ⟨pk_in 0 14 (by omega), fun b9 e9 => ⟨pk_in 0 14 (by omega), fun b10 _ => ⟨pk_in 0 14 (by omega), fun b2 e2 => nm_r (e' := 1) (by decide) ?_⟩⟩⟩⟩⟩
    rw [show (1 : Int32) - 1 = 0 from by decide]
    exact H b2 s b7 b8 b9 b10 (by rw [e2, sb_cl0, pk_us]) h (by rw [e9, sb_cl0, pk_us])
  · intro n i s hi h hw
    refine pk_le 16 i (fun z => absurd z (by omega)) (fun _ => ⟨pk_in 0 14 (by omega), ?_⟩)
    refine sy_has (by omega) true (by rw [sb_cl0, h4]; exact sy_all i hi) (br_f (by decide) ?_)
    refine ⟨pk_in i 16 hi, pk_in i 224 (by omega) (sy_ix i), nm_e (nm_r (nI_1 i) (hw _ ?_))⟩
    intro j hj
    rw [sy_ix, nI_clamp (by omega)]
    by_cases e : j = i
    · rw [e, pk_us]
    · rw [pk_un e]
      exact h j (by omega)
theorem sy_take {post : Int32 → St2 → Prop} {p : Int32} (h0 : ¬ p < 0) (h2 : p ≤ 2) (ha : a10 0 = 0)
    (H : ∀ b2 b3 b4 b5 b6 b7 b8 b9 b10 : Nat → Int32, b2 0 = 0 → b4 0 = 65535 → b5 0 = m &&& 65535 → (∀ j, j < 16 → b6 j = a1 j) → b9 0 = 0 → post 0 (m, 1, t, a1, b2, b3, b4, b5, b6, b7, b8, b9, b10, a11)) :
    wpX_take post (m, 0, t, a1, a2, a3, a4, a5, a6, a7, a8, a9, a10, a11) p := by
  unfold wpX_take
  dsimp only
  refine br_f h0 (br_t h2 (br_f (by decide) ?_))
  unfold wpX_freeSlot
  dsimp only
  refine ⟨1, br_f (by decide) ⟨pk_in 0 14 (by omega), br_t (by rw [sb_cl0]; exact ha) ?_⟩⟩
  unfold wpX_baseFor
  dsimp only
  have main : (vp_in (0 : Int32) 14 ∧ ∀ b3 : Nat → Int32, b3 = upd a3 (0 : Int32).toNatClampNeg (-1) → wX_take_62 post 0 65535 0 m 0 t a1 a2 b3 a4 a5 a6 a7 a8 a9 a10 a11) := by
    refine ⟨pk_in 0 14 (by omega), fun b3 _ => ?_⟩
    unfold wX_take_62
    refine ⟨pk_in 0 14 (by omega), fun b4 e4 => ⟨pk_in 0 14 (by omega), pk_in 0 14 (by omega), fun b5 e5 => ?_⟩⟩
    have h4 : b4 0 = 65535 := by rw [e4, sb_cl0, pk_us]
    refine sy_83 h4 (fun b2 b6 b7 b8 b9 b10 g2 g6 g9 => H b2 b3 b4 b5 b6 b7 b8 b9 b10 g2 h4 ?_ g6 g9)
    rw [e5, sb_cl0, pk_us, h4]
  refine br_c (fun _ => ?_) (fun _ => br_t rfl ?_)
  · exact ⟨main.1, fun b3 e3 => br_t rfl (main.2 b3 e3)⟩
  · exact ⟨main.1, fun b3 e3 => br_t rfl (main.2 b3 e3)⟩
theorem sy_take_no {post : Int32 → St2 → Prop} {p : Int32} (h : p < 0 ∨ (¬ p < 0 ∧ 2 < p)) (H : post (-1) (m, c, t, a1, a2, a3, a4, a5, a6, a7, a8, a9, a10, a11)) : wpX_take post (m, c, t, a1, a2, a3, a4, a5, a6, a7, a8, a9, a10, a11) p := by
  unfold wpX_take
  dsimp only
  rcases h with h | ⟨h1, h2⟩
  · exact br_t h H
  · refine br_f h1 (br_f ?_ H)
    exact Int32.not_le.mpr h2
theorem sy_liveT {post : Int32 → Prop} {k : Nat} (hk : k < 16) (b : Bool) (hb : sy_t m k = b) (H : post (sy_I b)) : wpX_liveThere post (m, c, t, a1, a2, a3, a4, a5, a6, a7, a8, a9, a10, a11) (nI k) := by
  unfold wpX_liveThere
  dsimp only
  refine sy_isF (sy_F_k hk) (br_f (by decide) ?_)
  rw [sy_bit m (by omega), hb]
  exact H
theorem sy_liveT_no {post : Int32 → Prop} {x : Int32} (hf : sy_F x false) (H : post (-1)) : wpX_liveThere post (m, c, t, a1, a2, a3, a4, a5, a6, a7, a8, a9, a10, a11) x := by
  unfold wpX_liveThere
  dsimp only
  exact sy_isF hf (br_t rfl H)
theorem sy_live1 {post : Int32 → Prop} {k : Nat} (hk : k < 16) (hb : sy_t m k = true) (H : post (a1 k)) : wpX_live post (m, c, t, a1, a2, a3, a4, a5, a6, a7, a8, a9, a10, a11) (nI k) := by
  unfold wpX_live
  dsimp only
  refine sy_isF (sy_F_k hk) (br_f (by decide) (sy_has (by omega) true hb (br_f (by decide) ⟨pk_in k 16 hk, ?_⟩)))
  rw [nI_clamp (by omega)]
  exact H
theorem sy_live0 {post : Int32 → Prop} {k : Nat} (hk : k < 16) (hb : sy_t m k = false) (H : post 0) : wpX_live post (m, c, t, a1, a2, a3, a4, a5, a6, a7, a8, a9, a10, a11) (nI k) := by
  unfold wpX_live
  dsimp only
  exact sy_isF (sy_F_k hk) (br_f (by decide) (sy_has (by omega) false hb (br_t rfl H)))
theorem sy_live_no {post : Int32 → Prop} {x : Int32} (hf : sy_F x false) (H : post 0) : wpX_live post (m, c, t, a1, a2, a3, a4, a5, a6, a7, a8, a9, a10, a11) x := by
  unfold wpX_live
  dsimp only
  exact sy_isF hf (br_t rfl H)
theorem sy_pt0 {post : Int32 → Prop} (H : post 0) : wpX_isPoint post (m, 0, t, a1, a2, a3, a4, a5, a6, a7, a8, a9, a10, a11) 0 := by
  unfold wpX_isPoint
  dsimp only
  exact br_f (by decide) (br_t (by decide) H)
theorem sy_pt1 {post : Int32 → Prop} (H : post 1) : wpX_isPoint post (m, 1, t, a1, a2, a3, a4, a5, a6, a7, a8, a9, a10, a11) 0 := by
  unfold wpX_isPoint
  dsimp only
  exact br_f (by decide) (br_f (by decide) H)
theorem sy_holder {post : Int32 → Prop} {j : Nat} (hj : j < 16) (h4 : a4 0 = 65535) (H : post 0) : wpX_holder post (m, c, t, a1, a2, a3, a4, a5, a6, a7, a8, a9, a10, a11) 0 (nI j) := by
  unfold wpX_holder
  dsimp only
  exact ⟨1, br_f (by decide) ⟨pk_in 0 14 (by omega), sy_has (by omega) true (by rw [sb_cl0, h4]; exact sy_all j hj) (br_f (by decide) H)⟩⟩
theorem sy_ne {p q : Bool} (h : p ≠ q) : ¬ sy_I p = sy_I q := by
  cases p <;> cases q
  · exact absurd rfl h
  · decide
  · decide
  · exact absurd rfl h
/-- isLive where the point and the live set differ in the file's being there -/
theorem sy_isL0 {post : Int32 → Prop} {j : Nat} (hj : j < 16) (h4 : a4 0 = 65535) (h : sy_t (a5 0) j ≠ sy_t m j) (H : post 0) : wpX_isLive post (m, c, t, a1, a2, a3, a4, a5, a6, a7, a8, a9, a10, a11) 0 (nI j) := by
  unfold wpX_isLive
  dsimp only
  refine sy_holder hj h4 ⟨pk_in 0 14 (by omega), ?_⟩
  rw [sb_cl0]
  exact sy_has (by omega) _ rfl (sy_has (by omega) _ rfl (br_f (sy_ne h) H))
/-- isLive where neither has it -/
theorem sy_isL1 {post : Int32 → Prop} {j : Nat} (hj : j < 16) (h4 : a4 0 = 65535) (h5 : sy_t (a5 0) j = false) (hm : sy_t m j = false) (H : post 1) : wpX_isLive post (m, c, t, a1, a2, a3, a4, a5, a6, a7, a8, a9, a10, a11) 0 (nI j) := by
  unfold wpX_isLive
  dsimp only
  refine sy_holder hj h4 ⟨pk_in 0 14 (by omega), ?_⟩
  rw [sb_cl0]
  exact sy_has (by omega) false h5 (sy_has (by omega) false hm (br_t rfl (sy_has (by omega) false hm (br_t rfl H))))
end
end
section
/-! changedSince, bring, restoreFile, restore, rename -/
section
variable {m c t : Int32} {a1 a2 a3 a4 a5 a6 a7 a8 a9 a10 a11 : Nat → Int32}
theorem sy_22 {post : Int32 → Prop} {d : Nat → Bool} (h4 : a4 0 = 65535)
    (hd : ∀ j, j < 16 → (sy_t (a9 0) j = false ∧ d j = false) ∨ (sy_t (a9 0) j = true ∧ sy_t (a5 0) j ≠ sy_t m j ∧ d j = true))
    (H : post (nI (sy_cnt d 16))) : ∃ n, wX_changedSince_22 post 0 m c t a1 a2 a3 a4 a5 a6 a7 a8 a9 a10 a11 n 0 0 := by
  refine pk_loop (σ := Unit) (fun n i _ => wX_changedSince_22 post 0 m c t a1 a2 a3 a4 a5 a6 a7 a8 a9 a10 a11 n (nI (sy_cnt d i)) (nI i)) (fun _ _ => True) 16 0 () (by omega) trivial ?_ ?_
  · intro n _ _
    exact pk_le 16 16 (fun _ => H) (fun z => absurd z (by omega))
  · intro n i _ hi _ hw
    have tt := hw () trivial
    refine pk_le 16 i (fun z => absurd z (by omega)) (fun _ => ⟨pk_in 0 14 (by omega), ?_⟩)
    rw [sb_cl0]
    rcases hd i hi with ⟨h9, e⟩ | ⟨h9, hn, e⟩
    · rw [sy_cnt_f e] at tt
      exact sy_has (by omega) false h9 (br_t rfl (nm_r (nI_1 i) tt))
    · rw [sy_cnt_t e] at tt
      exact sy_has (by omega) true h9 (br_f (by decide) (sy_isL0 hi h4 hn (br_t rfl (nm_r (nI_1 _) (nm_r (nI_1 i) tt)))))
theorem sy_chg0 {post : Int32 → Prop} (H : post (-1)) : wpX_changedSince post (m, 0, t, a1, a2, a3, a4, a5, a6, a7, a8, a9, a10, a11) 0 := by
  unfold wpX_changedSince
  dsimp only
  exact sy_pt0 (br_t rfl H)
theorem sy_chg1 {post : Int32 → Prop} {d : Nat → Bool} (h2 : a2 0 = 0) (h4 : a4 0 = 65535)
    (hd : ∀ j, j < 16 → (sy_t (a9 0) j = false ∧ d j = false) ∨ (sy_t (a9 0) j = true ∧ sy_t (a5 0) j ≠ sy_t m j ∧ d j = true))
    (H : post (nI (sy_cnt d 16))) : wpX_changedSince post (m, 1, t, a1, a2, a3, a4, a5, a6, a7, a8, a9, a10, a11) 0 := by
  unfold wpX_changedSince
  dsimp only
  exact sy_pt1 (br_f (by decide) ⟨pk_in 0 14 (by omega), nm_r (e' := 0) (by rw [sb_cl0, h2]) (sy_22 h4 hd H)⟩)
theorem sy_br0 {post : Int32 → St2 → Prop} {j : Nat} (hj : j < 16) (h9 : sy_t (a9 0) j = false) (H : post 0 (m, c, t, a1, a2, a3, a4, a5, a6, a7, a8, a9, a10, a11)) : wpX_bring post (m, c, t, a1, a2, a3, a4, a5, a6, a7, a8, a9, a10, a11) 0 (nI j) := by
  unfold wpX_bring
  dsimp only
  refine ⟨pk_in 0 14 (by omega), ?_⟩
  rw [sb_cl0]
  exact sy_has (by omega) false h9 (br_t rfl H)
theorem sy_br1 {post : Int32 → St2 → Prop} {j : Nat} (hj : j < 16) (h4 : a4 0 = 65535) (h9 : sy_t (a9 0) j = true) (h5 : sy_t (a5 0) j = false) (hm : sy_t m j = false) (H : post 0 (m, c, t, a1, a2, a3, a4, a5, a6, a7, a8, a9, a10, a11)) : wpX_bring post (m, c, t, a1, a2, a3, a4, a5, a6, a7, a8, a9, a10, a11) 0 (nI j) := by
  unfold wpX_bring
  dsimp only
  refine ⟨pk_in 0 14 (by omega), ?_⟩
  rw [sb_cl0]
  exact sy_has (by omega) true h9 (br_f (by decide) (sy_isL1 hj h4 h5 hm (br_f (by decide) H)))
theorem sy_brOn {post : Int32 → St2 → Prop} {j : Nat} (hj : j < 16) (h4 : a4 0 = 65535) (h9 : sy_t (a9 0) j = true) (h5 : sy_t (a5 0) j = true) (hm : sy_t m j = false)
    (H : ∀ b : Nat → Int32, b 0 = a9 0 ||| sy_B j → post 1 (m ||| sy_B j, c, t, upd a1 j (a6 j), a2, a3, a4, a5, a6, a7, a8, b, a10, a11)) : wpX_bring post (m, c, t, a1, a2, a3, a4, a5, a6, a7, a8, a9, a10, a11) 0 (nI j) := by
  unfold wpX_bring
  dsimp only
  refine ⟨pk_in 0 14 (by omega), ?_⟩
  rw [sb_cl0]
  refine sy_has (by omega) true h9 (br_f (by decide) (sy_isL0 hj h4 (by rw [h5, hm]; decide) (br_t rfl ?_)))
  refine sy_holder hj h4 ⟨pk_in 0 14 (by omega), ?_⟩
  rw [sb_cl0, sy_ix, nI_clamp (show j < 2 ^ 31 by omega)]
  exact sy_has (by omega) true h5 ⟨pk_in j 224 (by omega), sy_setOn hj hm H⟩
theorem sy_brOff {post : Int32 → St2 → Prop} {j : Nat} (hj : j < 16) (h4 : a4 0 = 65535) (h9 : sy_t (a9 0) j = true) (h5 : sy_t (a5 0) j = false) (hm : sy_t m j = true)
    (H : ∀ b : Nat → Int32, b 0 = a9 0 ||| sy_B j → post 1 (m &&& (sy_B j ^^^ (-1)), c, t, upd a1 j 0, a2, a3, a4, a5, a6, a7, a8, b, a10, a11)) : wpX_bring post (m, c, t, a1, a2, a3, a4, a5, a6, a7, a8, a9, a10, a11) 0 (nI j) := by
  unfold wpX_bring
  dsimp only
  refine ⟨pk_in 0 14 (by omega), ?_⟩
  rw [sb_cl0]
  refine sy_has (by omega) true h9 (br_f (by decide) (sy_isL0 hj h4 (by rw [h5, hm]; decide) (br_t rfl ?_)))
  refine sy_holder hj h4 ⟨pk_in 0 14 (by omega), ?_⟩
  rw [sb_cl0, sy_ix, nI_clamp (show j < 2 ^ 31 by omega)]
  exact sy_has (by omega) false h5 ⟨pk_in j 224 (by omega), sy_setOff hj hm H⟩
theorem sy_rf0 {post : Int32 → St2 → Prop} {y : Int32} (H : post (-1) (m, 0, t, a1, a2, a3, a4, a5, a6, a7, a8, a9, a10, a11)) : wpX_restoreFile post (m, 0, t, a1, a2, a3, a4, a5, a6, a7, a8, a9, a10, a11) 0 y := by
  unfold wpX_restoreFile
  dsimp only
  exact sy_pt0 (br_t rfl H)
theorem sy_rf1 {post : Int32 → St2 → Prop} {y : Int32} (hf : sy_F y false) (H : post (-2) (m, 1, t, a1, a2, a3, a4, a5, a6, a7, a8, a9, a10, a11)) : wpX_restoreFile post (m, 1, t, a1, a2, a3, a4, a5, a6, a7, a8, a9, a10, a11) 0 y := by
  unfold wpX_restoreFile
  dsimp only
  exact sy_pt1 (br_f (by decide) (sy_isF hf (br_t rfl H)))
theorem sy_rf2 {post : Int32 → St2 → Prop} {l : Nat} (hl : l < 16) (h2 : a2 0 = 0) (H : wpX_bring post (m, 1, t, a1, a2, a3, a4, a5, a6, a7, a8, a9, a10, a11) 0 (nI l)) : wpX_restoreFile post (m, 1, t, a1, a2, a3, a4, a5, a6, a7, a8, a9, a10, a11) 0 (nI l) := by
  unfold wpX_restoreFile
  dsimp only
  refine sy_pt1 (br_f (by decide) (sy_isF (sy_F_k hl) (br_f (by decide) ⟨pk_in 0 14 (by omega), ?_⟩)))
  rw [sb_cl0, h2]
  exact H
theorem sy_rs0 {post : Int32 → St2 → Prop} (H : post (-1) (m, 0, t, a1, a2, a3, a4, a5, a6, a7, a8, a9, a10, a11)) : wpX_restore post (m, 0, t, a1, a2, a3, a4, a5, a6, a7, a8, a9, a10, a11) 0 := by
  unfold wpX_restore
  dsimp only
  exact sy_pt0 (br_t rfl H)
theorem sy_rs1 {post : Int32 → St2 → Prop} (h2 : a2 0 = 0) (h9 : ∀ j, j < 16 → sy_t (a9 0) j = false) (H : post 0 (m, 1, t, a1, a2, a3, a4, a5, a6, a7, a8, a9, a10, a11)) : wpX_restore post (m, 1, t, a1, a2, a3, a4, a5, a6, a7, a8, a9, a10, a11) 0 := by
  unfold wpX_restore
  dsimp only
  refine sy_pt1 (br_f (by decide) ?_)
  refine pk_loop (σ := Unit) (fun n i _ => wX_restore_14 post 0 n 0 (nI i) m 1 t a1 a2 a3 a4 a5 a6 a7 a8 a9 a10 a11) (fun _ _ => True) 16 0 () (by omega) trivial ?_ ?_
  · intro n _ _
    exact pk_le 16 16 (fun _ => H) (fun z => absurd z (by omega))
  · intro n i _ hi _ hw
    have tt := hw () trivial
    refine pk_le 16 i (fun z => absurd z (by omega)) (fun _ => ⟨pk_in 0 14 (by omega), ?_⟩)
    rw [sb_cl0, h2]
    exact sy_br0 hi (h9 i hi) (nm_r (e' := 0) (by decide) (nm_r (nI_1 i) tt))
theorem sy_rs2 {post : Int32 → St2 → Prop} {k l : Nat} {x : Int32} (hk : k < 16) (hkl : k ≠ l) (h2 : a2 0 = 0) (h4 : a4 0 = 65535)
    (hm : ∀ j, j < 16 → sy_t m j = false) (h5 : ∀ j, j < 16 → sy_t (a5 0) j = decide (j = k)) (h6 : a6 k = x)
    (h9 : ∀ j, j < 16 → sy_t (a9 0) j = (decide (j = k) || decide (j = l)))
    (H : ∀ (m' : Int32) (b1 b9 : Nat → Int32), (∀ j, j < 16 → sy_t m' j = decide (j = k)) → b1 k = x → post 1 (m', 1, t, b1, a2, a3, a4, a5, a6, a7, a8, b9, a10, a11)) : wpX_restore post (m, 1, t, a1, a2, a3, a4, a5, a6, a7, a8, a9, a10, a11) 0 := by
  unfold wpX_restore
  dsimp only
  refine sy_pt1 (br_f (by decide) ?_)
  refine pk_loop (σ := Int32 × (Nat → Int32) × (Nat → Int32)) (fun n i s => wX_restore_14 post 0 n (sy_I (decide (k < i))) (nI i) s.1 1 t s.2.1 a2 a3 a4 a5 a6 a7 a8 s.2.2 a10 a11)
    (fun i s => (∀ j, j < 16 → sy_t s.1 j = (decide (j = k) && decide (k < i))) ∧ (k < i → s.2.1 k = x) ∧ (∀ j, j < 16 → sy_t (s.2.2 0) j = (decide (j = k) || decide (j = l)))) 16 0 (m, a1, a9) (by omega) ?_ ?_ ?_
  · refine ⟨fun j hj => ?_, fun z => absurd z (by omega), h9⟩
    dsimp only
    rw [hm j hj, decide_eq_false (show ¬ k < 0 by omega), Bool.and_false]
  · intro n s h
    obtain ⟨i1, i2, i3⟩ := h
    rw [decide_eq_true (show k < 16 from hk)] at i1
    refine pk_le 16 16 (fun _ => ?_) (fun z => absurd z (by omega))
    rw [decide_eq_true (show k < 16 from hk)]
    exact H s.1 s.2.1 s.2.2 (fun j hj => by rw [i1 j hj, Bool.and_true]) (i2 hk)
  · intro n i s hi h hw
    obtain ⟨i1, i2, i3⟩ := h
    obtain ⟨sm, s1, s9⟩ := s
    dsimp only at i1 i2 i3
    refine pk_le 16 i (fun z => absurd z (by omega)) (fun _ => ⟨pk_in 0 14 (by omega), ?_⟩)
    rw [sb_cl0, h2]
    by_cases ek : i = k
    · have e0 : decide (k < i) = false := decide_eq_false (by omega)
      have e1 : decide (k < i + 1) = true := decide_eq_true (by omega)
      have gm : sy_t sm i = false := by rw [i1 i hi, e0, Bool.and_false]
      have g5 : sy_t (a5 0) i = true := by rw [h5 i hi, decide_eq_true ek]
      have g9 : sy_t (s9 0) i = true := by rw [i3 i hi, decide_eq_true ek, Bool.true_or]
      refine sy_brOn hi h4 g9 g5 gm (fun b eb => ?_)
      have tt := hw (sm ||| sy_B i, upd s1 i (a6 i), b) ⟨fun j hj => ?_, fun _ => ?_, fun j hj => ?_⟩
      · dsimp only at tt
        rw [e1] at tt
        exact nm_r (e' := sy_I true) (by rw [e0]; decide) (nm_r (nI_1 i) tt)
      · dsimp only
        rw [sy_on sm (by omega) (by omega), i1 j hj, e0, e1, Bool.and_false, Bool.false_or, Bool.and_true, ek]
      · dsimp only
        rw [ek, pk_us, h6]
      · dsimp only
        rw [eb, sy_on _ (by omega) (by omega), i3 j hj, ek]
        cases decide (j = k) <;> cases decide (j = l) <;> rfl
    · have e1 : decide (k < i + 1) = decide (k < i) := by
        by_cases z : k < i
        · rw [decide_eq_true z, decide_eq_true (by omega)]
        · rw [decide_eq_false z, decide_eq_false (by omega)]
      have tt := hw (sm, s1, s9) ⟨fun j hj => by dsimp only; rw [i1 j hj, e1], fun z => i2 (by omega), i3⟩
      dsimp only at tt
      rw [e1] at tt
      have gm : sy_t sm i = false := by rw [i1 i hi, decide_eq_false ek, Bool.false_and]
      have g5 : sy_t (a5 0) i = false := by rw [h5 i hi, decide_eq_false ek]
      have fin : ∀ y : Int32, y = sy_I (decide (k < i)) + 0 → ∀ z : Int32, z = nI i + 1 → wX_restore_14 post 0 n y z sm 1 t s1 a2 a3 a4 a5 a6 a7 a8 s9 a10 a11 :=
        nm_r (e' := sy_I (decide (k < i))) (by cases decide (k < i) <;> decide) (nm_r (nI_1 i) tt)
      cases g9 : sy_t (s9 0) i
      · exact sy_br0 hi g9 fin
      · exact sy_br1 hi h4 g9 g5 gm fin
theorem sy_ren {post : Int32 → St2 → Prop} {k l : Nat} (hk : k < 16) (hl : l < 16) (hkl : k ≠ l) (mk : sy_t m k = true) (ml : sy_t m l = false)
    (H : ∀ b : Nat → Int32, b 0 = (a9 0 ||| sy_B l) ||| sy_B k → post 0 ((m ||| sy_B l) &&& (sy_B k ^^^ (-1)), c, t, upd (upd a1 l (a1 k)) k 0, a2, a3, a4, a5, a6, a7, a8, b, a10, a11)) : wpX_rename post (m, c, t, a1, a2, a3, a4, a5, a6, a7, a8, a9, a10, a11) (nI k) (nI l) := by
  unfold wpX_rename
  dsimp only
  refine sy_isF (sy_F_k hk) (br_f (by decide) (sy_isF (sy_F_k hl) (br_f (by decide) (pk_eq k l (fun z => absurd z hkl) (fun _ => ?_)))))
  refine sy_has (by omega) true mk (br_f (by decide) ⟨pk_in k 16 hk, ?_⟩)
  rw [nI_clamp (show k < 2 ^ 31 by omega)]
  refine sy_setOn hl ml (fun b eb => ?_)
  refine sy_setOff hk ?_ (fun b' eb' => H b' (eb'.trans (congrArg (fun z => z ||| sy_B k) eb)))
  rw [sy_on m (by omega) (by omega), mk, Bool.true_or]
theorem sy_ren_no {post : Int32 → St2 → Prop} {x y : Int32} {gf gg : Bool} (hf : sy_F x gf) (hg : sy_F y gg) (hu : gf = true → gg = true → x = y)
    (H1 : gf = false → post (-1) (m, c, t, a1, a2, a3, a4, a5, a6, a7, a8, a9, a10, a11)) (H2 : gg = false → post (-1) (m, c, t, a1, a2, a3, a4, a5, a6, a7, a8, a9, a10, a11)) (H3 : gf = true → gg = true → post (-2) (m, c, t, a1, a2, a3, a4, a5, a6, a7, a8, a9, a10, a11)) : wpX_rename post (m, c, t, a1, a2, a3, a4, a5, a6, a7, a8, a9, a10, a11) x y := by
  unfold wpX_rename
  dsimp only
  exact sy_isF hf (sy_br H1 (fun e1 => sy_isF hg (sy_br H2 (fun e2 => br_t (hu e1 e2) (H3 e1 e2)))))
end
end
section
/-! the law from its end -/
/-- what live answers -/
def sy_W (b : Bool) (x : Int32) : Int32 := match b with | true => x | false => 0
/-- the live set -/
def sy_V (m : Int32) (a1 : Nat → Int32) (x : Int32) (T : Nat → Bool) : Prop := (∀ j, j < 16 → sy_t m j = T j) ∧ (∀ j, j < 16 → T j = true → a1 j = x)
/-- the stored point: there is none, or it has entries for all files -/
def sy_Pt (tk : Bool) (c : Int32) (a2 a4 a5 a6 a9 : Nat → Int32) (x : Int32) (T0 U : Nat → Bool) : Prop :=
  (tk = false ∧ c = 0) ∨ (tk = true ∧ c = 1 ∧ a2 0 = 0 ∧ a4 0 = 65535 ∧ (∀ j, j < 16 → sy_t (a5 0) j = T0 j) ∧ (∀ j, j < 16 → T0 j = true → a6 j = x) ∧ (∀ j, j < 16 → sy_t (a9 0) j = U j))
/-- what must hold behind restore -/
def sy_End (x0 x1 x2 : Int32) (gf gg tk mv : Bool) (m : Int32) (a1 : Nat → Int32) : Prop := ∃ T : Nat → Bool, sy_V m a1 x1 T ∧ (gf && T x0.toNatClampNeg) = (gf && (!mv || tk)) ∧
  (gg && T x2.toNatClampNeg) = ((mv && !tk) || (tk && gf && decide (x0 = x2)) || ((gf && (!mv || tk)) && decide (x0 = x2)))
def sy_R (tk mv : Bool) : Int32 := match tk, mv with
  | false, _ => -1
  | true, true => 1
  | true, false => 0
def sy_RF (tk gg mv : Bool) : Int32 := match tk, gg, mv with
  | false, _, _ => -1
  | true, false, _ => -2
  | true, true, true => 1
  | true, true, false => 0
def sy_C (tk mv : Bool) : Int32 := match tk, mv with
  | false, _ => -1
  | true, true => 2
  | true, false => 0
/-- what restore does in this state -/
def sy_RS (x0 x1 x2 : Int32) (gf gg tk mv : Bool) (u : St2) : Prop := ∀ P : Int32 → St2 → Prop, (∀ (m' c' t' : Int32) (b1 b2 b3 b4 b5 b6 b7 b8 b9 b10 b11 : Nat → Int32), sy_End x0 x1 x2 gf gg tk mv m' b1 → P (sy_R tk mv) (m', c', t', b1, b2, b3, b4, b5, b6, b7, b8, b9, b10, b11)) → wpX_restore P u 0
section
variable {m c t : Int32} {a1 a2 a3 a4 a5 a6 a7 a8 a9 a10 a11 : Nat → Int32} {post : Int32 → St0 → Prop} {mc ms kc ks : Nat} {x0 x1 x2 x3 : Int32} {gf gg tk mv : Bool} {T : Nat → Bool} {z0 z1 : Int32}
theorem sy_liveW {post : Int32 → Prop} {x y : Int32} {g : Bool} (hv : sy_V m a1 x T) (hg : sy_F y g) (H : post (sy_W (g && T y.toNatClampNeg) x)) : wpX_live post (m, c, t, a1, a2, a3, a4, a5, a6, a7, a8, a9, a10, a11) y := by
  rcases hg with ⟨e, l, hl, ey⟩ | ⟨e, hx⟩
  · rw [ey, nI_clamp (by omega), e, Bool.true_and] at H
    rw [ey]
    cases hT : T l
    · rw [hT] at H
      exact sy_live0 hl (by rw [hv.1 l hl, hT]) H
    · rw [hT] at H
      refine sy_live1 hl (by rw [hv.1 l hl, hT]) ?_
      rw [hv.2 l hl hT]
      exact H
  · rw [e] at H
    exact sy_live_no (Or.inr ⟨rfl, hx⟩) H
theorem sy_422 (hp : post 1 ()) {z w : Int32} (h : w = z) : wL_lawOf_422 post mc ms z w kc ks := by
  unfold wL_lawOf_422
  exact br_t h hp
theorem sy_402 (hp : post 1 ()) {held back : Bool} {w : Int32} (hw : w = sy_W (held || (back && decide (x0 = x2))) x1) : wL_lawOf_402 post mc ms x0 x1 x2 (sy_I held) (sy_I back) w kc ks := by
  unfold wL_lawOf_402
  refine sy_br (fun e => sy_br (fun e2 => ?_) (fun e2 => br_c (fun e3 => ?_) (fun e3 => ?_))) (fun e => ?_)
  · exact sy_422 hp (by rw [hw, e, e2]; rfl)
  · exact sy_422 hp (by rw [hw, e, e2, decide_eq_true e3]; rfl)
  · exact sy_422 hp (by rw [hw, e, e2, decide_eq_false e3]; rfl)
  · exact sy_422 hp (by rw [hw, e]; rfl)
theorem sy_383 (hp : post 1 ()) {held back : Bool} (hz : z1 = z0) (hv : sy_V m a1 x1 T) (hg : sy_F x2 gg)
    (hq : (gg && T x2.toNatClampNeg) = ((mv && !tk) || held || (back && decide (x0 = x2)))) :
    wL_lawOf_383 post mc ms x0 x1 x2 (sy_I tk) (sy_I mv) (sy_I held) (sy_I back) z0 z1 kc ks m c t a1 a2 a3 a4 a5 a6 a7 a8 a9 a10 a11 := by
  unfold wL_lawOf_383
  refine br_t hz (sy_liveW hv hg ?_)
  rw [hq]
  refine sy_br (fun e => ?_) (fun e => sy_br (fun e2 => ?_) (fun e2 => ?_))
  · exact sy_402 hp (by rw [e]; rfl)
  · exact sy_422 hp (by rw [e, e2]; rfl)
  · exact sy_402 hp (by rw [e, e2]; rfl)
theorem sy_365 (hp : post 1 ()) {held back : Bool} (hv : sy_V m a1 x1 T) (hf : sy_F x0 gf) (hg : sy_F x2 gg) (hb : (gf && T x0.toNatClampNeg) = back)
    (hq : (gg && T x2.toNatClampNeg) = ((mv && !tk) || held || (back && decide (x0 = x2)))) :
    wL_lawOf_365 post mc ms x0 x1 x2 (sy_I tk) (sy_I mv) (sy_I held) (sy_I back) kc ks m c t a1 a2 a3 a4 a5 a6 a7 a8 a9 a10 a11 := by
  unfold wL_lawOf_365
  refine sy_liveW hv hf ?_
  rw [hb]
  refine sy_br (fun e => ?_) (fun e => ?_)
  · exact sy_383 hp (by rw [e]; rfl) hv hg hq
  · exact sy_383 hp (by rw [e]; rfl) hv hg hq
theorem sy_340 (hp : post 1 ()) (hz : z1 = z0) (hf : sy_F x0 gf) (hg : sy_F x2 gg) (he : sy_End x0 x1 x2 gf gg tk mv m a1) :
    wL_lawOf_340 post mc ms x0 x1 x2 (sy_I gf) (sy_I tk) (sy_I mv) (sy_I (tk && gf && decide (x0 = x2))) z0 z1 kc ks m c t a1 a2 a3 a4 a5 a6 a7 a8 a9 a10 a11 := by
  obtain ⟨T, hv, hb, hq⟩ := he
  have F : wL_lawOf_365 post mc ms x0 x1 x2 (sy_I tk) (sy_I mv) (sy_I (tk && gf && decide (x0 = x2))) (sy_I (gf && (!mv || tk))) kc ks m c t a1 a2 a3 a4 a5 a6 a7 a8 a9 a10 a11 := sy_365 hp hv hf hg hb hq
  unfold wL_lawOf_340
  refine br_t hz (sy_br (fun e => ?_) (fun e => sy_br (fun e2 => ?_) (fun e2 => sy_br (fun e3 => ?_) (fun e3 => ?_))))
  · rw [show (gf && (!mv || tk)) = false from by rw [e]; rfl] at F
    exact F
  · rw [show (gf && (!mv || tk)) = true from by rw [e, e2]; rfl] at F
    exact F
  · rw [show (gf && (!mv || tk)) = false from by rw [e, e2, e3]; rfl] at F
    exact F
  · rw [show (gf && (!mv || tk)) = true from by rw [e, e2, e3]; rfl] at F
    exact F
theorem sy_310 (hp : post 1 ()) (hz : z1 = z0) (hf : sy_F x0 gf) (hg : sy_F x2 gg) (hr : sy_RS x0 x1 x2 gf gg tk mv (m, c, t, a1, a2, a3, a4, a5, a6, a7, a8, a9, a10, a11)) :
    wL_lawOf_310 post mc ms x0 x1 x2 (sy_I gf) (sy_I tk) (sy_I mv) (sy_I (tk && gf && decide (x0 = x2))) z0 z1 kc ks m c t a1 a2 a3 a4 a5 a6 a7 a8 a9 a10 a11 := by
  unfold wL_lawOf_310
  refine br_t hz (hr _ (fun m' c' t' b1 b2 b3 b4 b5 b6 b7 b8 b9 b10 b11 he => ?_))
  refine sy_br (fun e => ?_) (fun e => sy_br (fun e2 => ?_) (fun e2 => ?_))
  · exact sy_340 hp (by rw [e]; rfl) hf hg he
  · exact sy_340 hp (by rw [e, e2]; rfl) hf hg he
  · exact sy_340 hp (by rw [e, e2]; rfl) hf hg he
theorem sy_272 (hp : post 1 ()) (hf : sy_F x0 gf) (hg : sy_F x2 gg)
    (hr : ∀ P : Int32 → St2 → Prop, (∀ (m' c' t' : Int32) (b1 b2 b3 b4 b5 b6 b7 b8 b9 b10 b11 : Nat → Int32), sy_RS x0 x1 x2 gf gg tk mv (m', c', t', b1, b2, b3, b4, b5, b6, b7, b8, b9, b10, b11) → P (sy_RF tk gg mv) (m', c', t', b1, b2, b3, b4, b5, b6, b7, b8, b9, b10, b11)) → wpX_restoreFile P (m, c, t, a1, a2, a3, a4, a5, a6, a7, a8, a9, a10, a11) 0 x2) :
    wL_lawOf_272 post mc ms x0 x1 x2 (sy_I gf) (sy_I gg) (sy_I tk) (sy_I mv) (sy_I (tk && gf && decide (x0 = x2))) kc ks m c t a1 a2 a3 a4 a5 a6 a7 a8 a9 a10 a11 := by
  unfold wL_lawOf_272
  refine hr _ (fun m' c' t' b1 b2 b3 b4 b5 b6 b7 b8 b9 b10 b11 hs => ?_)
  refine sy_br (fun e => ?_) (fun e => sy_br (fun e2 => ?_) (fun e2 => sy_br (fun e3 => ?_) (fun e3 => ?_)))
  · exact sy_310 hp (by rw [e]; rfl) hf hg hs
  · exact sy_310 hp (by rw [e, e2]; rfl) hf hg hs
  · exact sy_310 hp (by rw [e, e2, e3]; rfl) hf hg hs
  · exact sy_310 hp (by rw [e, e2, e3]; rfl) hf hg hs
theorem sy_247 (hz : z1 = z0) (H : wL_lawOf_272 post mc ms x0 x1 x2 (sy_I gf) (sy_I gg) (sy_I tk) (sy_I mv) (sy_I (tk && gf && decide (x0 = x2))) kc ks m c t a1 a2 a3 a4 a5 a6 a7 a8 a9 a10 a11) :
    wL_lawOf_247 post mc ms x0 x1 x2 (sy_I gf) (sy_I gg) (sy_I tk) (sy_I mv) z0 z1 kc ks m c t a1 a2 a3 a4 a5 a6 a7 a8 a9 a10 a11 := by
  unfold wL_lawOf_247
  refine br_t hz (sy_br (fun e => ?_) (fun e => sy_br (fun e2 => ?_) (fun e2 => br_c (fun e3 => ?_) (fun e3 => ?_))))
  · rw [show (tk && gf && decide (x0 = x2)) = false from by rw [e]; rfl] at H
    exact H
  · rw [show (tk && gf && decide (x0 = x2)) = false from by rw [e, e2]; rfl] at H
    exact H
  · rw [show (tk && gf && decide (x0 = x2)) = true from by rw [e, e2, decide_eq_true e3]; rfl] at H
    exact H
  · rw [show (tk && gf && decide (x0 = x2)) = false from by rw [e, e2, decide_eq_false e3]; rfl] at H
    exact H
theorem sy_217 (hz : z1 = z0) (hc : ∀ P : Int32 → Prop, P (sy_C tk mv) → wpX_changedSince P (m, c, t, a1, a2, a3, a4, a5, a6, a7, a8, a9, a10, a11) 0)
    (H : wL_lawOf_272 post mc ms x0 x1 x2 (sy_I gf) (sy_I gg) (sy_I tk) (sy_I mv) (sy_I (tk && gf && decide (x0 = x2))) kc ks m c t a1 a2 a3 a4 a5 a6 a7 a8 a9 a10 a11) :
    wL_lawOf_217 post mc ms x0 x1 x2 (sy_I gf) (sy_I gg) (sy_I tk) (sy_I mv) z0 z1 kc ks m c t a1 a2 a3 a4 a5 a6 a7 a8 a9 a10 a11 := by
  unfold wL_lawOf_217
  refine br_t hz (hc _ ?_)
  refine sy_br (fun e => ?_) (fun e => sy_br (fun e2 => ?_) (fun e2 => ?_))
  · exact sy_247 (by rw [e]; rfl) H
  · exact sy_247 (by rw [e, e2]; rfl) H
  · exact sy_247 (by rw [e, e2]; rfl) H
theorem sy_186 (hz : z1 = z0) (hv : sy_V m a1 x1 T) (hg : sy_F x2 gg) (hq : (gg && T x2.toNatClampNeg) = (mv || (gf && decide (x0 = x2))))
    (hc : ∀ P : Int32 → Prop, P (sy_C tk mv) → wpX_changedSince P (m, c, t, a1, a2, a3, a4, a5, a6, a7, a8, a9, a10, a11) 0)
    (H : wL_lawOf_272 post mc ms x0 x1 x2 (sy_I gf) (sy_I gg) (sy_I tk) (sy_I mv) (sy_I (tk && gf && decide (x0 = x2))) kc ks m c t a1 a2 a3 a4 a5 a6 a7 a8 a9 a10 a11) :
    wL_lawOf_186 post mc ms x0 x1 x2 (sy_I gf) (sy_I gg) (sy_I tk) (sy_I mv) z0 z1 kc ks m c t a1 a2 a3 a4 a5 a6 a7 a8 a9 a10 a11 := by
  unfold wL_lawOf_186
  refine br_t hz (sy_liveW hv hg ?_)
  rw [hq]
  refine sy_br (fun e => sy_br (fun e2 => ?_) (fun e2 => br_c (fun e3 => ?_) (fun e3 => ?_))) (fun e => ?_)
  · exact sy_217 (by rw [e, e2]; rfl) hc H
  · exact sy_217 (by rw [e, e2, decide_eq_true e3]; rfl) hc H
  · exact sy_217 (by rw [e, e2, decide_eq_false e3]; rfl) hc H
  · exact sy_217 (by rw [e]; rfl) hc H
theorem sy_156 (hz : z1 = z0) (hv : sy_V m a1 x1 T) (hf : sy_F x0 gf) (hg : sy_F x2 gg) (ht : gf = true → T x0.toNatClampNeg = !mv)
    (hq : (gg && T x2.toNatClampNeg) = (mv || (gf && decide (x0 = x2))))
    (hc : ∀ P : Int32 → Prop, P (sy_C tk mv) → wpX_changedSince P (m, c, t, a1, a2, a3, a4, a5, a6, a7, a8, a9, a10, a11) 0)
    (H : wL_lawOf_272 post mc ms x0 x1 x2 (sy_I gf) (sy_I gg) (sy_I tk) (sy_I mv) (sy_I (tk && gf && decide (x0 = x2))) kc ks m c t a1 a2 a3 a4 a5 a6 a7 a8 a9 a10 a11) :
    wL_lawOf_156 post mc ms x0 x1 x2 (sy_I gf) (sy_I gg) (sy_I tk) (sy_I mv) z0 z1 kc ks m c t a1 a2 a3 a4 a5 a6 a7 a8 a9 a10 a11 := by
  unfold wL_lawOf_156
  refine br_t hz ?_
  rcases hf with ⟨e, k, hk, ex⟩ | ⟨e, hx⟩
  · have g : T k = !mv := by
      have g0 := ht e
      rw [ex, nI_clamp (by omega)] at g0
      exact g0
    have L : ∀ P : Int32 → Prop, P (sy_I (!mv)) → wpX_liveThere P (m, c, t, a1, a2, a3, a4, a5, a6, a7, a8, a9, a10, a11) x0 := by
      intro P hP
      rw [ex]
      exact sy_liveT hk (!mv) (by rw [hv.1 k hk, g]) hP
    refine L _ ?_
    refine sy_br (fun e2 => absurd (e.symm.trans e2) (by decide)) (fun _ => sy_br (fun e2 => ?_) (fun e2 => ?_))
    · exact sy_186 (by rw [e2]; rfl) hv hg hq hc H
    · exact sy_186 (by rw [e2]; rfl) hv hg hq hc H
  · refine sy_liveT_no (Or.inr ⟨rfl, hx⟩) ?_
    exact sy_br (fun _ => sy_186 rfl hv hg hq hc H) (fun e2 => absurd (e.symm.trans e2) (by decide))
end
end
section
/-! the law's head: nothing moved, a file moved, the whole -/
section
variable {m c t : Int32} {a1 a2 a3 a4 a5 a6 a7 a8 a9 a10 a11 : Nat → Int32} {post : Int32 → St0 → Prop} {mc ms kc ks : Nat} {x0 x1 x2 x3 : Int32} {gf gg tk mv : Bool} {z0 z1 : Int32}
/-- x0's own file alone, if it is one -/
def sy_T (x0 : Int32) (gf : Bool) (j : Nat) : Bool := gf && decide (j = x0.toNatClampNeg)
theorem sy_Tg (hf : sy_F x0 gf) (hg : sy_F x2 gg) (hu : gf = true → gg = true → x0 = x2) : (gg && sy_T x0 gf x2.toNatClampNeg) = (gf && decide (x0 = x2)) := by
  unfold sy_T
  rcases hf with ⟨e, k, hk, ex⟩ | ⟨e, hx⟩
  · rcases hg with ⟨e2, l, hl, ey⟩ | ⟨e2, hy⟩
    · have h := hu e e2
      rw [e, e2, ← h, decide_eq_true rfl, decide_eq_true rfl]
      rfl
    · have h : ¬ x0 = x2 := by
        intro z
        rw [← z, ex] at hy
        rcases hy with hy | ⟨_, hy⟩
        · exact nI_pos (by omega) hy
        · exact nI_nlt (b := k) (a := 15) (by omega) (by omega) hy
      rw [e, e2, decide_eq_false h]
      rfl
  · rw [e]
    cases gg <;> rfl
theorem sy_un (hp : post 1 ()) (hf : sy_F x0 gf) (hg : sy_F x2 gg) (hu : gf = true → gg = true → x0 = x2) (hv : sy_V m a1 x1 (sy_T x0 gf))
    (hP : sy_Pt tk c a2 a4 a5 a6 a9 x1 (sy_T x0 gf) (fun _ => false)) :
    wL_lawOf_122 post mc ms x0 x1 x2 (sy_I gf) (sy_I gg) (sy_I tk) 0 kc ks m c t a1 a2 a3 a4 a5 a6 a7 a8 a9 a10 a11 := by
  have hq := sy_Tg hf hg hu
  have ht : gf = true → sy_T x0 gf x0.toNatClampNeg = true := by
    intro e
    unfold sy_T
    rw [e, decide_eq_true rfl]
    rfl
  have he : sy_End x0 x1 x2 gf gg tk false m a1 := by
    refine ⟨sy_T x0 gf, hv, ?_, ?_⟩
    · cases hgf : gf
      · rfl
      · rw [hgf] at ht
        rw [ht rfl]
        rfl
    · rw [hq]
      cases gf <;> cases tk <;> cases decide (x0 = x2) <;> rfl
  have rs : sy_RS x0 x1 x2 gf gg tk false (m, c, t, a1, a2, a3, a4, a5, a6, a7, a8, a9, a10, a11) := by
    intro P hP'
    rcases hP with ⟨e, ec⟩ | ⟨e, ec, h2, h4, h5, h6, h9⟩
    · rw [ec]
      have g := hP' m 0 t a1 a2 a3 a4 a5 a6 a7 a8 a9 a10 a11 he
      rw [e] at g
      exact sy_rs0 g
    · rw [ec]
      have g := hP' m 1 t a1 a2 a3 a4 a5 a6 a7 a8 a9 a10 a11 he
      rw [e] at g
      exact sy_rs1 h2 h9 g
  have hc : ∀ P : Int32 → Prop, P (sy_C tk false) → wpX_changedSince P (m, c, t, a1, a2, a3, a4, a5, a6, a7, a8, a9, a10, a11) 0 := by
    intro P hP'
    rcases hP with ⟨e, ec⟩ | ⟨e, ec, h2, h4, h5, h6, h9⟩
    · rw [ec]
      rw [e] at hP'
      exact sy_chg0 hP'
    · rw [ec]
      rw [e] at hP'
      refine sy_chg1 (d := fun _ => false) h2 h4 (fun j hj => Or.inl ⟨h9 j hj, rfl⟩) ?_
      rw [sy_cnt0]
      exact hP'
  have F : wL_lawOf_272 post mc ms x0 x1 x2 (sy_I gf) (sy_I gg) (sy_I tk) (sy_I false) (sy_I (tk && gf && decide (x0 = x2))) kc ks m c t a1 a2 a3 a4 a5 a6 a7 a8 a9 a10 a11 := by
    refine sy_272 hp hf hg (fun P hP' => ?_)
    have g := hP' m c t a1 a2 a3 a4 a5 a6 a7 a8 a9 a10 a11 rs
    rcases hP with ⟨e, ec⟩ | ⟨e, ec, h2, h4, h5, h6, h9⟩
    · rw [ec]
      rw [ec, e] at g
      exact sy_rf0 g
    · rw [ec]
      rw [ec, e] at g
      rcases hg with ⟨e2, l, hl, ey⟩ | ⟨e2, hy⟩
      · rw [ey]
        rw [e2] at g
        exact sy_rf2 hl h2 (sy_br0 hl (h9 l hl) g)
      · rw [e2] at g
        exact sy_rf1 (Or.inr ⟨rfl, hy⟩) g
  have M : ∀ z0 z1 : Int32, z1 = z0 → wL_lawOf_156 post mc ms x0 x1 x2 (sy_I gf) (sy_I gg) (sy_I tk) (sy_I false) z0 z1 kc ks m c t a1 a2 a3 a4 a5 a6 a7 a8 a9 a10 a11 :=
    fun z0 z1 hz => sy_156 hz hv hf hg ht (by rw [hq]; rfl) hc F
  unfold wL_lawOf_122
  refine sy_ren_no hf hg hu (fun e => ?_) (fun e => ?_) (fun e1 e2 => ?_)
  · exact sy_br (fun _ => M _ _ rfl) (fun z => absurd (e.symm.trans z) (by decide))
  · exact sy_br (fun _ => M _ _ rfl) (fun _ => sy_br (fun _ => M _ _ rfl) (fun z => absurd (e.symm.trans z) (by decide)))
  · exact sy_br (fun z => absurd (e1.symm.trans z) (by decide)) (fun _ => sy_br (fun z => absurd (e2.symm.trans z) (by decide)) (fun _ => br_t rfl (M _ _ rfl)))
theorem sy_dk {k l : Nat} (h : k ≠ l) (j : Nat) : ((decide (j = k) || decide (j = l)) && !decide (j = k)) = decide (j = l) := by
  by_cases e : j = k
  · rw [decide_eq_true e, decide_eq_false (show ¬ j = l by omega)]
    rfl
  · rw [decide_eq_false e, Bool.false_or, Bool.not_false, Bool.and_true]
/-- a file moved: behind rename -/
theorem sy_mv1 (hp : post 1 ()) {k l : Nat} (hk : k < 16) (hl : l < 16) (hkl : k ≠ l) (hv : sy_V m a1 x1 (fun j => decide (j = l)))
    (hP : sy_Pt tk c a2 a4 a5 a6 a9 x1 (fun j => decide (j = k)) (fun j => decide (j = k) || decide (j = l))) (hz : z1 = z0) :
    wL_lawOf_156 post mc ms (nI k) x1 (nI l) (sy_I true) (sy_I true) (sy_I tk) (sy_I true) z0 z1 kc ks m c t a1 a2 a3 a4 a5 a6 a7 a8 a9 a10 a11 := by
  have v0 : ∀ j, j < 16 → sy_t m j = decide (j = l) := hv.1
  have ck : (nI k).toNatClampNeg = k := nI_clamp (by omega)
  have cl : (nI l).toNatClampNeg = l := nI_clamp (by omega)
  have nx : decide (nI k = nI l) = false := decide_eq_false (fun z => hkl ((nI_eq (by omega) (by omega)).mp z))
  have hc : ∀ P : Int32 → Prop, P (sy_C tk true) → wpX_changedSince P (m, c, t, a1, a2, a3, a4, a5, a6, a7, a8, a9, a10, a11) 0 := by
    intro P hP'
    rcases hP with ⟨e, ec⟩ | ⟨e, ec, h2, h4, h5, h6, h9⟩
    · rw [ec]
      rw [e] at hP'
      exact sy_chg0 hP'
    · replace h5 : ∀ j, j < 16 → sy_t (a5 0) j = decide (j = k) := h5
      replace h9 : ∀ j, j < 16 → sy_t (a9 0) j = (decide (j = k) || decide (j = l)) := h9
      rw [ec]
      rw [e] at hP'
      refine sy_chg1 (d := fun j => decide (j = k) || decide (j = l)) h2 h4 (fun j hj => ?_) ?_
      · cases hU : (decide (j = k) || decide (j = l))
        · exact Or.inl ⟨by rw [h9 j hj, hU], rfl⟩
        · refine Or.inr ⟨by rw [h9 j hj, hU], ?_, rfl⟩
          rw [h5 j hj, v0 j hj]
          by_cases z : j = k
          · rw [decide_eq_true z, decide_eq_false (show ¬ j = l by omega)]
            decide
          · rw [decide_eq_false z, Bool.false_or] at hU
            rw [decide_eq_false z, hU]
            decide
      · rw [sy_cnt2 k hk l hl hkl]
        exact hP'
  have F : wL_lawOf_272 post mc ms (nI k) x1 (nI l) (sy_I true) (sy_I true) (sy_I tk) (sy_I true) (sy_I (tk && true && decide (nI k = nI l))) kc ks m c t a1 a2 a3 a4 a5 a6 a7 a8 a9 a10 a11 := by
    refine sy_272 hp (sy_F_k hk) (sy_F_k hl) (fun P hP' => ?_)
    rcases hP with ⟨e, ec⟩ | ⟨e, ec, h2, h4, h5, h6, h9⟩
    · have he : sy_End (nI k) x1 (nI l) true true tk true m a1 := by
        refine ⟨_, hv, ?_, ?_⟩
        · rw [ck, decide_eq_false hkl, e]
          rfl
        · rw [cl, decide_eq_true (show l = l from rfl), e]
          rfl
      have g := hP' m c t a1 a2 a3 a4 a5 a6 a7 a8 a9 a10 a11 (fun Q hQ => by
        have g0 := hQ m 0 t a1 a2 a3 a4 a5 a6 a7 a8 a9 a10 a11 he
        rw [e] at g0
        rw [ec]
        exact sy_rs0 g0)
      rw [ec]
      rw [ec, e] at g
      exact sy_rf0 g
    · replace h5 : ∀ j, j < 16 → sy_t (a5 0) j = decide (j = k) := h5
      replace h9 : ∀ j, j < 16 → sy_t (a9 0) j = (decide (j = k) || decide (j = l)) := h9
      rw [ec]
      have u5 : sy_t (a5 0) l = false := by rw [h5 l hl, decide_eq_false (show ¬ l = k from fun z => hkl z.symm)]
      have ul : sy_t m l = true := by rw [v0 l hl, decide_eq_true (show l = l from rfl)]
      have u9 : sy_t (a9 0) l = true := by rw [h9 l hl, decide_eq_true (show l = l from rfl), Bool.or_true]
      refine sy_rf2 hl h2 (sy_brOff hl h4 u9 u5 ul (fun b eb => ?_))
      have g := hP' (m &&& (sy_B l ^^^ (-1))) 1 t (upd a1 l 0) a2 a3 a4 a5 a6 a7 a8 b a10 a11 (fun Q hQ => ?_)
      · rw [e] at g
        exact g
      · refine sy_rs2 (x := x1) hk hkl h2 h4 (fun j hj => ?_) h5 (h6 k hk (decide_eq_true rfl)) (fun j hj => ?_) (fun m' b1 b9 v1 v2 => ?_)
        · rw [sy_off m (by omega) (by omega), v0 j hj]
          cases decide (j = l) <;> rfl
        · rw [eb, sy_on _ (by omega) (by omega), h9 j hj]
          cases decide (j = k) <;> cases decide (j = l) <;> rfl
        · have g0 := hQ m' 1 t b1 a2 a3 a4 a5 a6 a7 a8 b9 a10 a11 ⟨fun j => decide (j = k), ⟨v1, fun j hj z => by rw [of_decide_eq_true z]; exact v2⟩, ?_, ?_⟩
          · rw [e] at g0
            exact g0
          · dsimp only
            rw [ck, decide_eq_true (show k = k from rfl), e]
            rfl
          · dsimp only
            rw [cl, decide_eq_false (show ¬ l = k from fun z => hkl z.symm), e, nx]
            rfl
  refine sy_156 hz hv (sy_F_k hk) (sy_F_k hl) (fun _ => ?_) ?_ hc F
  · rw [ck, decide_eq_false hkl]
    rfl
  · rw [cl, decide_eq_true (show l = l from rfl)]
    rfl
theorem sy_mv (hp : post 1 ()) {k l : Nat} (hk : k < 16) (hl : l < 16) (hkl : k ≠ l) (hv : sy_V m a1 x1 (fun j => decide (j = k)))
    (hP : sy_Pt tk c a2 a4 a5 a6 a9 x1 (fun j => decide (j = k)) (fun _ => false)) :
    wL_lawOf_122 post mc ms (nI k) x1 (nI l) (sy_I true) (sy_I true) (sy_I tk) (sy_I true) kc ks m c t a1 a2 a3 a4 a5 a6 a7 a8 a9 a10 a11 := by
  unfold wL_lawOf_122
  have v0 : ∀ j, j < 16 → sy_t m j = decide (j = k) := hv.1
  have mk : sy_t m k = true := by rw [v0 k hk, decide_eq_true (show k = k from rfl)]
  have ml : sy_t m l = false := by rw [v0 l hl, decide_eq_false (show ¬ l = k from fun z => hkl z.symm)]
  refine sy_ren hk hl hkl mk ml (fun b eb => ?_)
  refine br_f (by decide) (br_f (by decide) (br_f (by decide) ?_))
  refine sy_mv1 hp hk hl hkl ⟨fun j hj => ?_, fun j hj z => ?_⟩ ?_ rfl
  · rw [sy_off _ (by omega) (by omega), sy_on _ (by omega) (by omega), v0 j hj]
    exact sy_dk hkl j
  · have z' : j = l := of_decide_eq_true z
    rw [z', pk_un (fun y => hkl y.symm), pk_us]
    exact hv.2 k hk (decide_eq_true rfl)
  · rcases hP with ⟨e, ec⟩ | ⟨e, ec, h2, h4, h5, h6, h9⟩
    · exact Or.inl ⟨e, ec⟩
    · refine Or.inr ⟨e, ec, h2, h4, h5, h6, fun j hj => ?_⟩
      rw [eb, sy_on _ (by omega) (by omega), sy_on _ (by omega) (by omega), show sy_t (a9 0) j = false from h9 j hj]
      dsimp only
      cases decide (j = k) <;> cases decide (j = l) <;> rfl
theorem sy_97 (hp : post 1 ()) (hf : sy_F x0 gf) (hg : sy_F x2 gg) (hv : sy_V m a1 x1 (sy_T x0 gf))
    (hP : sy_Pt tk c a2 a4 a5 a6 a9 x1 (sy_T x0 gf) (fun _ => false)) (hz : z1 = z0) :
    wL_lawOf_97 post mc ms x0 x1 x2 (sy_I gf) (sy_I gg) (sy_I tk) z0 z1 kc ks m c t a1 a2 a3 a4 a5 a6 a7 a8 a9 a10 a11 := by
  unfold wL_lawOf_97
  refine br_t hz (sy_br (fun e => ?_) (fun e => sy_br (fun e2 => ?_) (fun e2 => br_c (fun e3 => ?_) (fun e3 => ?_))))
  · exact sy_un hp hf hg (fun z => absurd (e.symm.trans z) (by decide)) hv hP
  · exact sy_un hp hf hg (fun _ z => absurd (e2.symm.trans z) (by decide)) hv hP
  · exact sy_un hp hf hg (fun _ _ => e3) hv hP
  · rcases hf with ⟨_, k, hk, ex⟩ | ⟨y, _⟩
    · rcases hg with ⟨_, l, hl, ey⟩ | ⟨y, _⟩
      · have eT : sy_T x0 gf = fun j => decide (j = k) := by
          funext j
          unfold sy_T
          rw [e, ex, nI_clamp (by omega), Bool.true_and]
        rw [eT] at hv hP
        rw [e, e2, ex, ey]
        exact sy_mv hp hk hl (fun z => e3 (by rw [ex, ey, z])) hv hP
      · exact absurd (e2.symm.trans y) (by decide)
    · exact absurd (e.symm.trans y) (by decide)
/-- is the way one of the three -/
def sy_Y (x : Int32) (b : Bool) : Prop := (b = true ∧ ¬ x < 0 ∧ x ≤ 2) ∨ (b = false ∧ (x < 0 ∨ (¬ x < 0 ∧ 2 < x)))
theorem sy_76 (hp : post 1 ()) (hf : sy_F x0 gf) (hg : sy_F x2 gg) (hy : sy_Y x3 tk) (hv : sy_V m a1 x1 (sy_T x0 gf)) (ha : a10 0 = 0) (hz : z1 = z0) :
    wL_lawOf_76 post mc ms x0 x1 x2 x3 (sy_I gf) (sy_I gg) (sy_I tk) z0 z1 kc ks m 0 t a1 a2 a3 a4 a5 a6 a7 a8 a9 a10 a11 := by
  unfold wL_lawOf_76
  refine br_t hz ?_
  rcases hy with ⟨e, h0, h2⟩ | ⟨e, h⟩
  · refine sy_take h0 h2 ha (fun b2 b3 b4 b5 b6 b7 b8 b9 b10 g2 g4 g5 g6 g9 => ?_)
    refine sy_br (fun z => absurd (e.symm.trans z) (by decide)) (fun _ => sy_97 hp hf hg hv (Or.inr ⟨e, rfl, g2, g4, fun j hj => ?_, fun j hj z => ?_, fun j hj => ?_⟩) rfl)
    · rw [g5, sy_and, sy_all j hj, Bool.and_true, hv.1 j hj]
    · rw [g6 j hj]
      exact hv.2 j hj z
    · rw [g9, sy_0]
  · refine sy_take_no h ?_
    exact sy_br (fun _ => sy_97 hp hf hg hv (Or.inl ⟨e, rfl⟩) rfl) (fun z => absurd (e.symm.trans z) (by decide))
theorem sy_57 (hp : post 1 ()) (hf : sy_F x0 gf) (hg : sy_F x2 gg) (hy : sy_Y x3 tk) :
    wL_lawOf_57 post mc ms x0 x1 x2 x3 (sy_I gf) (sy_I gg) (sy_I tk) kc ks 0 0 0 (fun _ => 0) (fun _ => 0) (fun _ => 0) (fun _ => 0) (fun _ => 0) (fun _ => 0) (fun _ => 0) (fun _ => 0) (fun _ => 0) (fun _ => 0) (fun _ => 0) := by
  unfold wL_lawOf_57
  have hf' := hf
  rcases hf with ⟨e, k, hk, ex⟩ | ⟨e, hx⟩
  · have R : ∀ P : Int32 → St2 → Prop, (∀ b : Nat → Int32, P 0 (0 ||| sy_B k, 0, 0, upd (fun _ => 0) k x1, (fun _ => 0), (fun _ => 0), (fun _ => 0), (fun _ => 0), (fun _ => 0), (fun _ => 0), (fun _ => 0), b, (fun _ => 0), (fun _ => 0))) → wpX_put P (0, 0, 0, (fun _ => 0), (fun _ => 0), (fun _ => 0), (fun _ => 0), (fun _ => 0), (fun _ => 0), (fun _ => 0), (fun _ => 0), (fun _ => 0), (fun _ => 0), (fun _ => 0)) x0 x1 := by
      intro P h
      rw [ex]
      exact sy_put hk (sy_0 k) (fun b _ => h b)
    refine R _ (fun b => ?_)
    refine sy_br (fun z => absurd (e.symm.trans z) (by decide)) (fun _ => sy_76 hp hf' hg hy ⟨fun j hj => ?_, fun j hj z => ?_⟩ rfl rfl)
    · rw [sy_on _ (by omega) (by omega), sy_0, Bool.false_or]
      unfold sy_T
      rw [e, ex, nI_clamp (by omega), Bool.true_and]
    · unfold sy_T at z
      rw [e, ex, nI_clamp (by omega), Bool.true_and] at z
      rw [of_decide_eq_true z, pk_us]
  · refine sy_put_no (Or.inr ⟨rfl, hx⟩) ?_
    refine sy_br (fun _ => sy_76 hp hf' hg hy ⟨fun j hj => ?_, fun j hj z => ?_⟩ rfl rfl) (fun z => absurd (e.symm.trans z) (by decide))
    · rw [sy_0]
      unfold sy_T
      rw [e]
      rfl
    · unfold sy_T at z
      rw [e, Bool.false_and] at z
      exact absurd z (by decide)
theorem sy_F3 {x : Int32} {A B : Prop} (f : sy_F x false → A) (g : sy_F x true → B) : (x < 0 → A) ∧ (¬ x < 0 → ((15 < x → A) ∧ (¬ 15 < x → B))) := by
  refine ⟨fun h => f (Or.inr ⟨rfl, Or.inl h⟩), fun h => ⟨fun h2 => f (Or.inr ⟨rfl, Or.inr ⟨h, h2⟩⟩), fun h2 => ?_⟩⟩
  obtain ⟨j, hj, e⟩ := nI_of2 (M := 15) (n := 15) (by decide) h (Int32.not_lt.mp h2)
  exact g (Or.inl ⟨rfl, j, by omega, e⟩)
theorem sy_Y3 {x : Int32} {A B : Prop} (f : sy_Y x false → A) (g : sy_Y x true → B) : (x < 0 → A) ∧ (¬ x < 0 → ((2 < x → A) ∧ (¬ 2 < x → B))) :=
  ⟨fun h => f (Or.inr ⟨rfl, Or.inl h⟩), fun h => ⟨fun h2 => f (Or.inr ⟨rfl, Or.inr ⟨h, h2⟩⟩), fun h2 => g (Or.inl ⟨rfl, h, Int32.not_lt.mp h2⟩)⟩⟩
theorem sy_41 (hp : post 1 ()) (hf : sy_F x0 gf) (hg : sy_F x2 gg) : wL_lawOf_41 post mc ms x0 x1 x2 x3 (sy_I gf) (sy_I gg) kc ks 0 0 0 (fun _ => 0) (fun _ => 0) (fun _ => 0) (fun _ => 0) (fun _ => 0) (fun _ => 0) (fun _ => 0) (fun _ => 0) (fun _ => 0) (fun _ => 0) (fun _ => 0) := by
  unfold wL_lawOf_41
  exact sy_Y3 (fun hy => sy_57 hp hf hg hy) (fun hy => sy_57 hp hf hg hy)
theorem sy_24 (hp : post 1 ()) (hf : sy_F x0 gf) : wL_lawOf_24 post mc ms x0 x1 x2 x3 (sy_I gf) kc ks 0 0 0 (fun _ => 0) (fun _ => 0) (fun _ => 0) (fun _ => 0) (fun _ => 0) (fun _ => 0) (fun _ => 0) (fun _ => 0) (fun _ => 0) (fun _ => 0) (fun _ => 0) := by
  unfold wL_lawOf_24
  exact sy_F3 (fun hg => sy_41 hp hf hg) (fun hg => sy_41 hp hf hg)
theorem sy_law (hp : post 1 ()) (f x g y : Int32) : wpL_lawOf post 200 3184 () f x g y := by
  unfold wpL_lawOf
  refine ⟨by omega, by omega, 100, 1000, by omega, by omega, ?_⟩
  unfold wpX_init
  dsimp only
  refine ⟨by omega, by omega, by omega, by omega, by omega, by omega, by omega, by omega, by omega, by omega, by omega, by omega, by omega, by omega, by omega, by omega, by omega, by omega, by omega, by omega, by omega, by omega, ?_⟩
  exact sy_F3 (fun hf => sy_24 hp hf) (fun hf => sy_24 hp hf)
theorem sy_cell {P : Int32 → Prop} {L : Nat} {xs : Nat → Int32} (hL : L ≤ 4) (i : Nat) (hi : i < 4) (h : ∀ r, P r) : wpL_cellAt P L xs () (nI i) := by
  unfold wpL_cellAt
  exact pk_le L i (fun _ => h _) (fun z => ⟨pk_in i L z, h _⟩)
end
theorem i_vc (xs : Nat → Int32) (L : Nat) (hL : L ≤ 4) : wpL_law (fun r => r = 1) L xs := by
  unfold wpL_law
  refine sy_cell hL 0 (by omega) (fun r1 => ?_)
  refine sy_cell hL 1 (by omega) (fun r2 => ?_)
  refine sy_cell hL 2 (by omega) (fun r3 => ?_)
  refine sy_cell hL 3 (by omega) (fun r4 => ?_)
  exact ⟨200, 3184, by omega, by omega, sy_law rfl r1 r2 r3 r4⟩
end
