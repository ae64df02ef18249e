section
/-! the plain law: the pure picture of the word m (7 bits) and of the layered graph that is built for it -/
/-- letter p of the word -/
def wr_kb (m p : Nat) : Nat := m / 2 ^ (6 - p) % 2
/-- the live node of layer d, and the dead one -/
def wr_lv (m d : Nat) : Nat := if m / 2 ^ (7 - d) = 0 then 2 * d - 1 else 2 * d
def wr_dd (m d : Nat) : Nat := 4 * d - 1 - wr_lv m d
/-- the layer of a node -/
def wr_dp (i : Nat) : Nat := (i + 1) / 2
def wr_live (m i : Nat) : Bool := wr_lv m (wr_dp i) == i
/-- the set of a live node of layer d -/
def wr_ls (d : Nat) : Nat := if d = 0 then 4096 else 2 ^ (d - 1)
def wr_S (m i : Nat) : Nat := if wr_live m i then wr_ls (wr_dp i) else 0
def wr_H (m i : Nat) : Nat := if decide (13 ≤ i) && wr_live m i then 1 else 0
/-- the child of node i by letter c -/
def wr_K (m c i : Nat) : Nat := if wr_live m i && wr_kb m (wr_dp i) == c then wr_lv m (wr_dp i + 1) else wr_dd m (wr_dp i + 1)
/-- ways of node i after fill(l) -/
def wr_wv (m l i : Nat) : Nat := if decide (l = 7) && wr_live m i then 1 else 0
/-- the places under k of kind c -/
def wr_zo (m c : Nat) : Nat → Nat
  | 0 => 0
  | k + 1 => if wr_kb m k = c then wr_zo m c k ||| 2 ^ k else wr_zo m c k
def wr_fo (p : Nat) : Nat := if p < 6 then 2 ^ (p + 1) else 0
/-- what step has reached after p places -/
def wr_rc (g : Nat → Nat) (r s : Nat) : Nat → Nat
  | 0 => r
  | p + 1 => if s / 2 ^ p % 2 = 1 then wr_rc g r s p ||| g p else wr_rc g r s p
/-- nodes made before node i's children are asked for -/
def wr_N (m i : Nat) : Nat := if i = 0 then 1 else if i % 2 = 1 then i + 2 else if wr_live m (i - 1) then i + 3 else i + 2
def wr_z (j : Nat) : Nat := if j = 0 then 4096 else 0

theorem wr_or (a b : Nat) : nI a ||| nI b = nI (a ||| b) := by
  apply Int32.toBitVec_inj.1
  show BitVec.ofNat 32 a ||| BitVec.ofNat 32 b = BitVec.ofNat 32 (a ||| b)
  apply BitVec.eq_of_getLsbD_eq
  intro i hi
  simp [hi]
theorem wr_and (a b : Nat) : nI a &&& nI b = nI (a &&& b) := by
  apply Int32.toBitVec_inj.1
  show BitVec.ofNat 32 a &&& BitVec.ofNat 32 b = BitVec.ofNat 32 (a &&& b)
  apply BitVec.eq_of_getLsbD_eq
  intro i hi
  simp [hi]
theorem wr_sl : ∀ n, n < 32 → ((nI n &&& 31).toBitVec.smod 32).toNat = n := by decide +kernel
theorem wr_bit {s p : Nat} (hs : s < 2 ^ 31) (hp : p < 32) : (nI s >>> (nI p &&& 31)) &&& 1 = nI (s / 2 ^ p % 2) := by
  rw [pk_shrN hs (nI p &&& 31) p (wr_sl p hp)]
  exact pk_andN (Nat.lt_of_le_of_lt (Nat.div_le_self _ _) (by omega)) 1 (by decide)
theorem wr_shl : ∀ p, p < 12 → (1 : Int32) <<< (nI p &&& 31) = nI (2 ^ p) := by decide +kernel
/-- a bit of the word's int, and of its last seven bits -/
theorem wr_bitw (w : Int32) {e : Nat} (he : e < 7) : (w >>> (nI e &&& 31)) &&& 1 = (((w &&& 127) >>> (nI e &&& 31)) &&& 1) := by
  apply Int32.toBitVec_inj.1
  rw [Int32.toBitVec_and, Int32.toBitVec_and, Int32.toBitVec_shiftRight, Int32.toBitVec_shiftRight, Int32.toBitVec_and]
  show (w.toBitVec.sshiftRight ((nI e &&& 31).toBitVec.smod 32).toNat) &&& 1#32 = ((w.toBitVec &&& 127#32).sshiftRight ((nI e &&& 31).toBitVec.smod 32).toNat) &&& 1#32
  rw [wr_sl e (by omega)]
  apply BitVec.eq_of_getLsbD_eq
  intro i hi
  rw [BitVec.getLsbD_and, BitVec.getLsbD_and]
  by_cases h0 : i = 0
  · subst h0
    rw [BitVec.getLsbD_sshiftRight, BitVec.getLsbD_sshiftRight, BitVec.getLsbD_and]
    have h127 : ∀ e, e < 7 → (127#32).getLsbD e = true := by decide +kernel
    rw [Nat.add_zero, h127 e he, Bool.and_true]
    simp [show e < 32 by omega]
  · have : (1#32).getLsbD i = false := by
      have h1 : ∀ i, i < 32 → i ≠ 0 → (1#32).getLsbD i = false := by decide +kernel
      exact h1 i hi h0
    rw [this, Bool.and_false, Bool.and_false]
theorem wr_kbw (w : Int32) {m e : Nat} (hm : m < 128) (hw : w &&& 127 = nI m) (he : e < 7) : (w >>> (nI e &&& 31)) &&& 1 = nI (wr_kb m (6 - e)) := by
  rw [wr_bitw w he, hw, wr_bit (by omega) (by omega)]
  unfold wr_kb
  rw [show 6 - (6 - e) = e by omega]
theorem wr_kb2 (m p : Nat) : wr_kb m p < 2 := Nat.mod_lt _ (by omega)

/-! finite facts -/
theorem wr_z0 : ∀ k, k < 7 → ∀ m, m < 128 → wr_zo m 0 (k + 1) = (if wr_kb m k = 1 then wr_zo m 0 k else wr_zo m 0 k ||| 2 ^ k) ∧ wr_zo m 1 (k + 1) = (if wr_kb m k = 0 then wr_zo m 1 k else wr_zo m 1 k ||| 2 ^ k) := by
  intro k _ m _
  have h := wr_kb2 m k
  constructor
  · show (if wr_kb m k = 0 then _ else _) = _
    by_cases e : wr_kb m k = 1
    · rw [if_pos e, if_neg (by omega)]
    · rw [if_neg e, if_pos (by omega)]
  · show (if wr_kb m k = 1 then _ else _) = _
    by_cases e : wr_kb m k = 0
    · rw [if_pos e, if_neg (by omega)]
    · rw [if_neg e, if_pos (by omega)]
theorem wr_fS4096 : ∀ m, m < 128 → ∀ i, i < 15 → (wr_S m i ≤ 4096 ∧ (nI (wr_S m i) &&& 4096 = 0 ↔ wr_S m i ≠ 4096) ∧ (nI (wr_S m i) &&& 64 = 0 ↔ wr_H m i = 0) ∧ wr_H m i < 2) := by decide +kernel
theorem wr_fStep : ∀ m, m < 128 → ∀ i, i < 13 → ∀ c, c < 2 → (wr_rc wr_fo (if wr_S m i = 4096 then 1 else 0) (wr_S m i) 12 &&& wr_zo m c 7) = wr_S m (wr_K m c i) := by decide +kernel
theorem wr_fStep0 : ∀ s, s = 0 ∨ s = 4096 → wr_rc (fun _ => 0) 0 s 12 = 0 := by
  intro s h
  rcases h with rfl | rfl <;> decide +kernel
/-- the children: where they lie, and when they are made -/
theorem wr_fKa : ∀ m, m < 128 → ∀ i, i < 13 → ∀ c, c < 2 → (2 * wr_dp i + 1 ≤ wr_K m c i ∧ wr_K m c i < 2 * wr_dp i + 3) := by decide +kernel
theorem wr_fKs : ∀ m, m < 128 → ∀ i, i < 13 → ∀ c, c < 2 → ∀ j, j < 15 → (j < 2 * wr_dp i + 1 ∨ wr_K m c i ≤ j ∨ ¬ wr_S m j = wr_S m (wr_K m c i)) := by decide +kernel
theorem wr_fKb : ∀ m, m < 128 → ∀ i, i < 13 → (wr_K m 0 i ≤ wr_N m i ∧ wr_K m 1 i ≤ max (wr_N m i) (wr_K m 0 i + 1) ∧ wr_N m (i + 1) = max (max (wr_N m i) (wr_K m 0 i + 1)) (wr_K m 1 i + 1) ∧ wr_N m i ≤ 15) := by decide +kernel
theorem wr_fK (m : Nat) (hm : m < 128) (i : Nat) (hi : i < 13) : (∀ c, c < 2 → 2 * wr_dp i + 1 ≤ wr_K m c i ∧ wr_K m c i < 2 * wr_dp i + 3 ∧ (∀ j, j < 15 → 2 * wr_dp i + 1 ≤ j → j < wr_K m c i → wr_S m j ≠ wr_S m (wr_K m c i))) ∧ wr_K m 0 i ≤ wr_N m i ∧ wr_K m 1 i ≤ max (wr_N m i) (wr_K m 0 i + 1) ∧ wr_N m (i + 1) = max (max (wr_N m i) (wr_K m 0 i + 1)) (wr_K m 1 i + 1) ∧ wr_N m i ≤ 15 :=
  ⟨fun c hc => ⟨(wr_fKa m hm i hi c hc).1, (wr_fKa m hm i hi c hc).2, fun j hj h1 h2 => by
    rcases wr_fKs m hm i hi c hc j hj with z | z | z
    · exact absurd z (by omega)
    · exact absurd z (by omega)
    · exact z⟩, wr_fKb m hm i hi⟩
theorem wr_fN : ∀ m d : Nat, wr_N m (2 * d - 1) = 2 * d + 1 := by
  intro m d
  unfold wr_N
  by_cases h : d = 0
  · subst h; rfl
  · rw [if_neg (by omega), if_pos (by omega)]; omega
/-- the ways -/
theorem wr_fW : ∀ m, m < 128 → ∀ l, l < 8 → (∀ i, i < 2 * l - 1 → wr_wv m l (wr_K m 0 i) + wr_wv m l (wr_K m 1 i) = wr_wv m l i) ∧ (∀ i, i < 2 * l + 1 → 2 * l - 1 ≤ i → wr_H m i = wr_wv m l i) := by decide +kernel
theorem wr_fW0 : ∀ m, m < 128 → ∀ l, l < 8 → wr_wv m l 0 = if l = 7 then 1 else 0 := by decide +kernel
/-- live and dead -/
theorem wr_fL : ∀ m, m < 128 → ∀ j, j < 7 → wr_lv m j < 2 * j + 1 ∧ (∀ c, c < 2 → wr_K m c (wr_lv m j) = if wr_kb m j = c then wr_lv m (j + 1) else wr_dd m (j + 1)) ∧ (1 ≤ j → wr_dd m j < 2 * j + 1 ∧ ∀ c, c < 2 → wr_K m c (wr_dd m j) = wr_dd m (j + 1)) := by decide +kernel
theorem wr_fV : ∀ m, m < 128 → ∀ j, j < 8 → wr_lv m j < 2 * j + 1 ∧ wr_live m (wr_lv m j) = true ∧ (1 ≤ j → wr_dd m j < 2 * j + 1 ∧ wr_live m (wr_dd m j) = false) := by decide +kernel
theorem wr_fH7 : ∀ m, m < 128 → wr_H m (wr_lv m 7) = 1 ∧ wr_H m (wr_dd m 7) = 0 := by decide +kernel
/-- two nodes of a layer are never alike -/
theorem wr_fG : ∀ m, m < 128 → ∀ d, d < 8 → 1 ≤ d → (if d = 7 then wr_H m (2 * d) ≠ wr_H m (2 * d - 1) else (wr_K m 0 (2 * d) ≠ wr_K m 0 (2 * d - 1) ∨ wr_K m 1 (2 * d) ≠ wr_K m 1 (2 * d - 1))) := by decide +kernel
theorem wr_kbd {m j : Nat} (hj : j < 7) : m / 2 ^ (7 - (j + 1)) = 2 * (m / 2 ^ (7 - j)) + wr_kb m j := by
  unfold wr_kb
  rw [show 7 - (j + 1) = 6 - j by omega, show 7 - j = (6 - j) + 1 by omega, Nat.pow_succ, ← Nat.div_div_eq_div_mul]
  omega
theorem wr_qd (q e : Nat) : q / 2 ^ e = 2 * (q / 2 ^ (e + 1)) + q / 2 ^ e % 2 := by
  rw [Nat.pow_succ, ← Nat.div_div_eq_div_mul]
  omega
end
section
/-! letters, cats, store: from the empty object to the slots' picture -/
section wr2
variable {f1 f2 f3 f4 f5 f6 : Int32} {a1 a2 a3 a4 a5 a6 a7 a8 a9 a10 a11 a12 a13 a14 a15 a16 a17 a18 a19 a20 a21 a22 : Nat → Int32} {m : Nat}
/-- a loop's predicate at a whole state -/
def wr_ap (W : Int32 → Int32 → Int32 → Int32 → Int32 → Int32 → (Nat → Int32) → (Nat → Int32) → (Nat → Int32) → (Nat → Int32) → (Nat → Int32) → (Nat → Int32) → (Nat → Int32) → (Nat → Int32) → (Nat → Int32) → (Nat → Int32) → (Nat → Int32) → (Nat → Int32) → (Nat → Int32) → (Nat → Int32) → (Nat → Int32) → (Nat → Int32) → (Nat → Int32) → (Nat → Int32) → (Nat → Int32) → (Nat → Int32) → (Nat → Int32) → (Nat → Int32) → Prop) (u : St2) : Prop := match u with
  | (f1, f2, f3, f4, f5, f6, a1, a2, a3, a4, a5, a6, a7, a8, a9, a10, a11, a12, a13, a14, a15, a16, a17, a18, a19, a20, a21, a22) => W f1 f2 f3 f4 f5 f6 a1 a2 a3 a4 a5 a6 a7 a8 a9 a10 a11 a12 a13 a14 a15 a16 a17 a18 a19 a20 a21 a22
def wr_Z (a8 a9 a10 a13 : Nat → Int32) : Prop := (∀ s, s < 3 → a8 s = 0 ∧ a9 s = 0 ∧ a10 s = 0) ∧ ∀ p, p < 36 → a13 p = 0
/-- k letters are pushed -/
def wr_L (m k : Nat) (u : St2) : Prop := match u with
  | (f1, f2, f3, f4, f5, f6, a1, a2, a3, a4, a5, a6, a7, a8, a9, a10, a11, a12, a13, a14, a15, a16, a17, a18, a19, a20, a21, a22) => f1 = 7 ∧ f2 = nI k ∧ f3 = nI k ∧ f4 = 170 ∧ f5 = 0 ∧ (0 < k → a1 0 = 0) ∧ (∀ j, j < k → a2 j = nI (2 ^ j) ∧ a3 j = nI (2 ^ j) ∧ a5 j = nI (wr_kb m j)) ∧ (∀ j, j < 8 → a4 j = 0) ∧ (∀ j, j < 12 → a6 j = 0) ∧ wr_Z a8 a9 a10 a13
/-- k cats are done -/
def wr_C (m k : Nat) (u : St2) : Prop := match u with
  | (f1, f2, f3, f4, f5, f6, a1, a2, a3, a4, a5, a6, a7, a8, a9, a10, a11, a12, a13, a14, a15, a16, a17, a18, a19, a20, a21, a22) => f1 = 7 ∧ f2 = nI (7 - k) ∧ f3 = nI 7 ∧ f4 = 170 ∧ f5 = 0 ∧ a1 0 = 0 ∧ (∀ j, j < 7 → a2 j = nI (2 ^ j) ∧ a5 j = nI (wr_kb m j)) ∧ (∀ j, j < 6 - k → a3 j = nI (2 ^ j)) ∧ a3 (6 - k) = nI 64 ∧ (∀ j, j < 8 → a4 j = 0) ∧ (∀ p, p < 12 → a6 p = nI (if 6 - k ≤ p ∧ p < 6 then 2 ^ (p + 1) else 0)) ∧ wr_Z a8 a9 a10 a13
/-- the slots' picture -/
def wr_Q (m : Nat) (f1 f4 : Int32) (a8 a9 a10 a11 a12 a13 : Nat → Int32) : Prop := f1 = 7 ∧ f4 = 170 ∧ a8 0 = nI 1 ∧ a8 1 = nI 0 ∧ a8 2 = nI 0 ∧ a9 0 = nI 64 ∧ a9 1 = nI 0 ∧ a9 2 = nI 0 ∧ a10 0 = 0 ∧ a10 1 = 0 ∧ a10 2 = 0 ∧ a11 0 = nI (wr_zo m 0 7) ∧ a12 0 = nI (wr_zo m 1 7) ∧ ∀ p, p < 36 → a13 p = nI (wr_fo p)
/-- the built graph -/
def wr_G (m : Nat) (u : St2) : Prop := match u with
  | (f1, f2, f3, f4, f5, f6, a1, a2, a3, a4, a5, a6, a7, a8, a9, a10, a11, a12, a13, a14, a15, a16, a17, a18, a19, a20, a21, a22) => f1 = 7 ∧ f5 = 1 ∧ (∀ d, d < 9 → a14 d = nI (2 * d - 1)) ∧ (∀ i, i < 13 → a18 i = nI (wr_K m 0 i) ∧ a19 i = nI (wr_K m 1 i)) ∧ (∀ i, i < 15 → a20 i = nI (wr_H m i))
def wr_U (m : Nat) (u : St2) : Prop := match u with
  | (f1, f2, f3, f4, f5, f6, a1, a2, a3, a4, a5, a6, a7, a8, a9, a10, a11, a12, a13, a14, a15, a16, a17, a18, a19, a20, a21, a22) => f5 = 0 ∧ wr_Q m f1 f4 a8 a9 a10 a11 a12 a13
def wr_R (m : Nat) (u : St2) : Prop := wr_U m u ∨ wr_G m u
theorem wr_uk {f : Nat → Int32} {x : Int32} {y : Int32} {K : Nat} (hy : y = nI K) (hK : K < 2 ^ 31) : upd f y.toNatClampNeg x = upd f K x := by rw [hy, nI_clamp hK]
theorem wr_rd {f : Nat → Int32} {y : Int32} {K : Nat} (hy : y = nI K) (hK : K < 2 ^ 31) : f y.toNatClampNeg = f K := by rw [hy, nI_clamp hK]
theorem wr_n0 : vp_nar .boolean 0 = 0 := by first | rfl | decide
theorem wr_n1 : vp_nar .boolean 1 = 1 := by first | rfl | decide
theorem wr_letter {post : Int32 → St2 → Prop} {k : Nat} (hk : k < 7) {u : St2} (hL : wr_L m k u) {x : Int32} (hx : x = nI (wr_kb m k)) (H : ∀ r u', wr_L m (k + 1) u' → post r u') : wpX_letter post u x := by
  obtain ⟨f1, f2, f3, f4, f5, f6, a1, a2, a3, a4, a5, a6, a7, a8, a9, a10, a11, a12, a13, a14, a15, a16, a17, a18, a19, a20, a21, a22⟩ := u
  obtain ⟨rfl, rfl, rfl, rfl, rfl, h1, h2, h4, h6, hZ⟩ := hL
  subst hx
  have hc := wr_kb2 m k
  refine pk_lt (wr_kb m k) 0 (fun z => absurd z (by omega)) (fun _ => pk_le (wr_kb m k) 2 (fun _ => ?_) (fun z => absurd z (by omega)))
  refine pk_eq k 8 (fun z => absurd z (by omega)) (fun _ => pk_eq k 12 (fun z => absurd z (by omega)) (fun _ => nm_r (wr_shl k (by omega)) ?_))
  refine ⟨pk_in k 8 (by omega), nm_r (wr_uk rfl (by omega)) ⟨pk_in k 8 (by omega), nm_r (wr_uk rfl (by omega)) ⟨pk_in k 8 (by omega), nm_r (wr_uk rfl (by omega)) ⟨pk_in k 8 (by omega), nm_r (wr_uk rfl (by omega)) (nm_r (nI_1 k) ?_)⟩⟩⟩⟩
  refine ⟨pk_in k 12 (by omega), nm_r (wr_uk rfl (by omega)) ⟨pk_in k 12 (by omega), nm_r (wr_uk rfl (by omega)) (nm_r (nI_1 k) (H _ _ ?_))⟩⟩
  refine ⟨rfl, rfl, rfl, rfl, rfl, fun _ => ?_, fun j hj => ?_, fun j hj => ?_, fun j hj => ?_, hZ⟩
  · by_cases e : 0 = k
    · rw [← e, pk_us]; rfl
    · rw [pk_un e]; exact h1 (by omega)
  · by_cases e : j = k
    · rw [e, pk_us, pk_us, pk_us]; exact ⟨rfl, rfl, rfl⟩
    · rw [pk_un e, pk_un e, pk_un e]; exact h2 j (by omega)
  · by_cases e : j = k
    · rw [e, pk_us]; exact wr_n0
    · rw [pk_un e]; exact h4 j hj
  · by_cases e : j = k
    · rw [e, pk_us]
    · rw [pk_un e]; exact h6 j hj
theorem wr_tb : ∀ x, x < 12 → ∀ i, i < 12 → ((nI (2 ^ x) >>> (nI i &&& 31)) &&& 1 = 1 ↔ i = x) := by decide +kernel
theorem wr_link {post : St2 → Prop} {x : Nat} (hx : x < 12) {p t : Int32} (hp : p = nI (2 ^ x)) (H : ∀ s : Nat → Int32, (∀ j, j < 12 → s j = if j = x then a6 j ||| t else a6 j) → post (f1, f2, f3, f4, f5, f6, a1, a2, a3, a4, a5, s, a7, a8, a9, a10, a11, a12, a13, a14, a15, a16, a17, a18, a19, a20, a21, a22)) : wpX_link post (f1, f2, f3, f4, f5, f6, a1, a2, a3, a4, a5, a6, a7, a8, a9, a10, a11, a12, a13, a14, a15, a16, a17, a18, a19, a20, a21, a22) p t := by
  subst hp
  refine pk_loop (fun n i s => wX_link_2 post (nI (2 ^ x)) t f1 f2 f3 f4 f5 f6 n (nI i) a1 a2 a3 a4 a5 s a7 a8 a9 a10 a11 a12 a13 a14 a15 a16 a17 a18 a19 a20 a21 a22) (fun i s => ∀ j, j < 12 → s j = if j = x ∧ j < i then a6 j ||| t else a6 j) 12 0 a6 (by omega) ?_ ?_ ?_
  · intro j hj
    rw [if_neg (by omega)]
  · intro n s h
    refine pk_le 12 12 (fun _ => H s (fun j hj => ?_)) (fun z => absurd z (by omega))
    rw [h j hj]
    by_cases e : j = x
    · rw [if_pos e, if_pos ⟨e, hj⟩]
    · rw [if_neg e, if_neg (fun z => e z.1)]
  · intro n i s hi h hw
    refine pk_le 12 i (fun z => absurd z (by omega)) (fun _ => ek_if (wr_tb x hx i hi) (fun z => ⟨pk_in i 12 hi, pk_in i 12 hi, nm_r (wr_uk rfl (by omega)) (nm_r (nI_1 i) (hw _ (fun j hj => ?_)))⟩) (fun z => nm_r (nI_1 i) (hw _ (fun j hj => ?_))))
    · by_cases e : j = i
      · subst e
        rw [pk_us, nI_clamp (by omega), h j hj, if_neg (by omega), if_pos (by omega)]
      · rw [pk_un e, h j hj]
        rw [if_neg (show ¬ (j = x ∧ j < i) by omega), if_neg (show ¬ (j = x ∧ j < i + 1) by omega)]
    · rw [h j hj]
      by_cases e : j = x ∧ j < i
      · rw [if_pos e, if_pos (by omega)]
      · rw [if_neg e, if_neg (by omega)]
theorem wr_cat {post : Int32 → St2 → Prop} {k : Nat} (hk : k < 6) {u : St2} (hC : wr_C m k u) (H : ∀ r u', wr_C m (k + 1) u' → post r u') : wpX_cat post u := by
  obtain ⟨f1, f2, f3, f4, f5, f6, a1, a2, a3, a4, a5, a6, a7, a8, a9, a10, a11, a12, a13, a14, a15, a16, a17, a18, a19, a20, a21, a22⟩ := u
  obtain ⟨rfl, rfl, rfl, rfl, rfl, h1, h2, h3, h3', h4, h6, hZ⟩ := hC
  have e1 : nI (7 - k) - 1 = nI (6 - k) := by
    rw [show 7 - k = (6 - k) + 1 by omega]; exact nI_pred _
  have e2 : nI (7 - k) - 2 = nI (5 - k) := by
    have := pk_sub (a := 7 - k) (b := 2) (by omega)
    rw [show 7 - k - 2 = 5 - k by omega] at this; exact this
  refine pk_le 2 (7 - k) (fun _ => nm_r e1 (nm_r e2 ⟨pk_in (5 - k) 8 (by omega), pk_in (6 - k) 8 (by omega), ?_⟩)) (fun z => absurd z (by omega))
  refine wr_link (x := 5 - k) (by omega) (by rw [nI_clamp (by omega)]; exact h3 _ (by omega)) (fun s hs => ?_)
  have c5 : a4 (nI (5 - k)).toNatClampNeg = 0 := by rw [nI_clamp (by omega)]; exact h4 _ (by omega)
  have c6 : a4 (nI (6 - k)).toNatClampNeg = 0 := by rw [nI_clamp (by omega)]; exact h4 _ (by omega)
  refine ⟨pk_in (5 - k) 8 (by omega), br_t c5 ⟨pk_in (6 - k) 8 (by omega), br_t c6 ⟨pk_in (6 - k) 8 (by omega), pk_in (5 - k) 8 (by omega), nm_r (wr_uk rfl (by omega)) ⟨pk_in (5 - k) 8 (by omega), br_t c5 ⟨pk_in (5 - k) 8 (by omega), nm_r (wr_uk rfl (by omega)) (H _ _ ?_)⟩⟩⟩⟩⟩
  refine ⟨rfl, ?_, rfl, rfl, rfl, h1, h2, fun j hj => ?_, ?_, fun j hj => ?_, fun p hp => ?_, hZ⟩
  · rw [show 7 - (k + 1) = 6 - k by omega]
  · rw [pk_un (by omega)]; exact h3 j (by omega)
  · rw [show 6 - (k + 1) = 5 - k by omega, pk_us, nI_clamp (by omega)]; exact h3'
  · by_cases e : j = 5 - k
    · rw [e, pk_us]
    · rw [pk_un e]; exact h4 j hj
  · rw [hs p hp]
    by_cases e : p = 5 - k
    · rw [if_pos e, h6 p hp, if_neg (by omega), if_pos (by omega), nI_clamp (by omega), (h2 (6 - k) (by omega)).1, wr_or, e, Nat.zero_or, show 5 - k + 1 = 6 - k by omega]
    · rw [if_neg e, h6 p hp]
      by_cases e2 : 6 - k ≤ p ∧ p < 6
      · rw [if_pos e2, if_pos (by omega)]
      · rw [if_neg e2, if_neg (by omega)]
theorem wr_shl' : ∀ p, p < 12 → (1 : Int32) <<< ((nI p - 0) &&& 31) = nI (2 ^ p) := by decide +kernel
theorem wr_ix : ∀ i, i < 12 → (((0 : Int32) * 12) + nI i) - 0 = nI i := by decide +kernel
theorem wr_s161 {post : Int32 → St2 → Prop} {J : Int32 → (Nat → Int32) → (Nat → Int32) → (Nat → Int32) → (Nat → Int32) → (Nat → Int32) → (Nat → Int32) → (Nat → Int32) → (Nat → Int32) → (Nat → Int32) → (Nat → Int32) → (Nat → Int32) → (Nat → Int32) → (Nat → Int32) → (Nat → Int32) → (Nat → Int32) → (Nat → Int32) → (Nat → Int32) → (Nat → Int32) → (Nat → Int32) → (Nat → Int32) → (Nat → Int32) → (Nat → Int32) → Prop} {i : Nat} (hi : i < 7) (h6 : a6 i = nI (wr_fo i)) (H : J (nI (i + 1)) a1 a2 a3 a4 a5 a6 a7 a8 a9 a10 a11 a12 (upd a13 i (nI (wr_fo i))) a14 a15 a16 a17 a18 a19 a20 a21 a22) : wX_store_161 post J 0 0 0 (nI i) f1 f2 f3 f4 f5 f6 a1 a2 a3 a4 a5 a6 a7 a8 a9 a10 a11 a12 a13 a14 a15 a16 a17 a18 a19 a20 a21 a22 := by
  unfold wX_store_161
  rw [wr_ix i (by omega), nI_clamp (show i < 2 ^ 31 by omega), sb_shr0, h6]
  exact ⟨pk_in i 12 (by omega), pk_in i 36 (by omega), nm_e (nm_r (nI_1 i) H)⟩
theorem wr_s136 {post : Int32 → St2 → Prop} {J : Int32 → (Nat → Int32) → (Nat → Int32) → (Nat → Int32) → (Nat → Int32) → (Nat → Int32) → (Nat → Int32) → (Nat → Int32) → (Nat → Int32) → (Nat → Int32) → (Nat → Int32) → (Nat → Int32) → (Nat → Int32) → (Nat → Int32) → (Nat → Int32) → (Nat → Int32) → (Nat → Int32) → (Nat → Int32) → (Nat → Int32) → (Nat → Int32) → (Nat → Int32) → (Nat → Int32) → (Nat → Int32) → Prop} {i : Nat} (hi : i < 7) (hm : m < 128) (h5 : a5 i = nI (wr_kb m i)) (h6 : a6 i = nI (wr_fo i)) (h12 : a12 0 = nI (wr_zo m 1 i)) (H : ∀ s, s 0 = nI (wr_zo m 1 (i + 1)) → J (nI (i + 1)) a1 a2 a3 a4 a5 a6 a7 a8 a9 a10 a11 s (upd a13 i (nI (wr_fo i))) a14 a15 a16 a17 a18 a19 a20 a21 a22) : wX_store_136 post J 0 0 0 (nI i) (nI (2 ^ i)) f1 f2 f3 f4 f5 f6 a1 a2 a3 a4 a5 a6 a7 a8 a9 a10 a11 a12 a13 a14 a15 a16 a17 a18 a19 a20 a21 a22 := by
  have hc := wr_kb2 m i
  have hz := (wr_z0 i hi m hm).2
  refine ⟨pk_in i 12 (by omega), pk_eq (wr_kb m i) 0 (fun z => wr_s161 hi h6 (H _ ?_)) (fun z => ⟨pk_in 0 3 (by omega), pk_in 0 3 (by omega), nm_r (wr_uk (K := 0) rfl (by omega)) (wr_s161 hi h6 (H _ ?_))⟩) (by rw [nI_clamp (by omega)]; exact h5)⟩
  · rw [hz, if_pos z]; exact h12
  · rw [pk_us, hz, if_neg z, sb_cl0, h12, wr_or]
theorem wr_s93 {post : Int32 → St2 → Prop} (hm : m < 128) (h5 : ∀ j, j < 7 → a5 j = nI (wr_kb m j)) (h6 : ∀ j, j < 7 → a6 j = nI (wr_fo j)) (h11 : a11 0 = 0) (h12 : a12 0 = 0) (h13 : ∀ p, p < 36 → a13 p = 0)
    (H : ∀ s11 s12 s13 : Nat → Int32, s11 0 = nI (wr_zo m 0 7) → s12 0 = nI (wr_zo m 1 7) → (∀ p, p < 36 → s13 p = nI (wr_fo p)) → post 0 (f1, 0, 0, f4, 0, f6, a1, a2, a3, a4, a5, a6, a7, a8, a9, a10, s11, s12, s13, a14, a15, a16, a17, a18, a19, a20, a21, a22)) : ∃ n, wX_store_93 post 0 0 0 f1 f2 (nI 7) f4 f5 f6 n 0 a1 a2 a3 a4 a5 a6 a7 a8 a9 a10 a11 a12 a13 a14 a15 a16 a17 a18 a19 a20 a21 a22 := by
  refine pk_loop (σ := (Nat → Int32) × (Nat → Int32) × (Nat → Int32)) (fun n i s => wX_store_93 post 0 0 0 f1 f2 (nI 7) f4 f5 f6 n (nI i) a1 a2 a3 a4 a5 a6 a7 a8 a9 a10 s.1 s.2.1 s.2.2 a14 a15 a16 a17 a18 a19 a20 a21 a22) (fun i s => s.1 0 = nI (wr_zo m 0 i) ∧ s.2.1 0 = nI (wr_zo m 1 i) ∧ ∀ p, p < 36 → s.2.2 p = nI (if p < i then wr_fo p else 0)) 7 0 (a11, a12, a13) (by omega) ⟨h11, h12, fun p hp => ?_⟩ ?_ ?_
  · rw [if_neg (by omega)]; exact h13 p hp
  · rintro n ⟨s1, s2, s3⟩ ⟨k1, k2, k3⟩
    refine pk_le 7 7 (fun _ => H s1 s2 s3 k1 k2 (fun p hp => ?_)) (fun z => absurd z (by omega))
    have k := k3 p hp
    dsimp only at k
    rw [k]
    by_cases e : p < 7
    · rw [if_pos e]
    · rw [if_neg e]
      unfold wr_fo
      rw [if_neg (by omega)]
  · rintro n i ⟨s1, s2, s3⟩ hi ⟨k1, k2, k3⟩ hw
    dsimp only at k1 k2 k3
    have hc := wr_kb2 m i
    have hz := (wr_z0 i hi m hm).1
    have k3' : ∀ p, p < 36 → upd s3 i (nI (wr_fo i)) p = nI (if p < i + 1 then wr_fo p else 0) := by
      intro p hp
      by_cases e : p = i
      · rw [e, pk_us, if_pos (by omega)]
      · rw [pk_un e, k3 p hp]
        by_cases e2 : p < i
        · rw [if_pos e2, if_pos (by omega)]
        · rw [if_neg e2, if_neg (by omega)]
    refine pk_le 7 i (fun z => absurd z (by omega)) (fun _ => nm_r (wr_shl' i (by omega)) ⟨pk_in i 12 (by omega), pk_eq (wr_kb m i) 1 (fun z => ?_) (fun z => ⟨pk_in 0 3 (by omega), pk_in 0 3 (by omega), nm_r (wr_uk (K := 0) rfl (by omega)) ?_⟩) (by rw [nI_clamp (by omega)]; exact h5 i hi)⟩)
    · exact wr_s136 hi hm (h5 i hi) (h6 i hi) k2 (fun s hs => hw (s1, s, _) ⟨by rw [hz, if_pos z]; exact k1, hs, k3'⟩)
    · have k1' : upd s1 0 (s1 (0 : Int32).toNatClampNeg ||| nI (2 ^ i)) 0 = nI (wr_zo m 0 (i + 1)) := by
        rw [pk_us, hz, if_neg z, sb_cl0, k1, wr_or]
      exact wr_s136 hi hm (h5 i hi) (h6 i hi) k2 (fun s hs => hw (upd s1 0 (s1 (0 : Int32).toNatClampNeg ||| nI (2 ^ i)), s, _) ⟨k1', hs, k3'⟩)
theorem wr_store {post : Int32 → St2 → Prop} (hm : m < 128) {u : St2} (hC : wr_C m 6 u) (H : ∀ u', wr_R m u' → post 0 u') : wpX_store post u 0 := by
  obtain ⟨f1, f2, f3, f4, f5, f6, a1, a2, a3, a4, a5, a6, a7, a8, a9, a10, a11, a12, a13, a14, a15, a16, a17, a18, a19, a20, a21, a22⟩ := u
  obtain ⟨rfl, rfl, rfl, rfl, rfl, h1, h2, h3, h3', h4, h6, hZ⟩ := hC
  refine pk_lt 0 0 (fun z => absurd z (by omega)) (fun _ => pk_le 0 2 (fun _ => pk_le 1 1 (fun _ => nm_r (e' := 0) (by rfl) ?_) (fun z => absurd z (by omega))) (fun z => absurd z (by omega)))
  have g1 : a1 (0 : Int32).toNatClampNeg = 0 := by rw [sb_cl0]; exact h1
  refine ⟨pk_in 0 8 (by omega), nm_r g1 ⟨pk_in 0 8 (by omega), pk_in 0 3 (by omega), nm_r (wr_uk (K := 0) rfl (by omega)) ⟨pk_in 0 8 (by omega), pk_in 0 3 (by omega), nm_r (wr_uk (K := 0) rfl (by omega)) ⟨pk_in 0 8 (by omega), pk_in 0 3 (by omega), nm_r (wr_uk (K := 0) rfl (by omega)) ⟨pk_in 0 3 (by omega), nm_r (wr_uk (K := 0) rfl (by omega)) ⟨pk_in 0 3 (by omega), nm_r (wr_uk (K := 0) rfl (by omega)) ?_⟩⟩⟩⟩⟩⟩
  refine wr_s93 hm (fun j hj => (h2 j hj).2) (fun j hj => ?_) pk_us pk_us hZ.2 (fun s11 s12 s13 k1 k2 k3 => H _ (Or.inl ⟨rfl, rfl, rfl, ?_, ?_, ?_, ?_, ?_, ?_, ?_, ?_, ?_, k1, k2, k3⟩))
  · rw [h6 j (by omega)]
    unfold wr_fo
    by_cases e : j < 6
    · rw [if_pos e, if_pos (by omega)]
    · rw [if_neg e, if_neg (by omega)]
  · rw [pk_us, sb_cl0, sb_shr0]; exact (h2 0 (by omega)).1
  · rw [pk_un (by omega)]; exact (hZ.1 1 (by omega)).1
  · rw [pk_un (by omega)]; exact (hZ.1 2 (by omega)).1
  · rw [pk_us, sb_cl0, sb_shr0]; exact h3'
  · rw [pk_un (by omega)]; exact (hZ.1 1 (by omega)).2.1
  · rw [pk_un (by omega)]; exact (hZ.1 2 (by omega)).2.1
  · rw [pk_us, sb_cl0, h4 0 (by omega)]; exact wr_n0
  · rw [pk_un (by omega)]; exact (hZ.1 1 (by omega)).2.2
  · rw [pk_un (by omega)]; exact (hZ.1 2 (by omega)).2.2
end wr2
end
section
/-! the layered graph: accepts, chosen, step, node, child, build -/
section wr3
variable {f1 f2 f3 f4 f5 f6 : Int32} {a1 a2 a3 a4 a5 a6 a7 a8 a9 a10 a11 a12 a13 a14 a15 a16 a17 a18 a19 a20 a21 a22 : Nat → Int32} {m : Nat}
theorem wr_acc {post : Int32 → Prop} {s : Nat} (hs : s < 3) {y x : Int32} (hy : y = nI s) (h10 : a10 s = 0) (H0 : x &&& a9 s = 0 → post 0) (H1 : ¬ x &&& a9 s = 0 → post 1) : wpX_accepts post (f1, f2, f3, f4, f5, f6, a1, a2, a3, a4, a5, a6, a7, a8, a9, a10, a11, a12, a13, a14, a15, a16, a17, a18, a19, a20, a21, a22) y x := by
  subst hy
  have h : wX_accepts_19 post (nI s) x f1 f2 f3 f4 f5 f6 a1 a2 a3 a4 a5 a6 a7 a8 a9 a10 a11 a12 a13 a14 a15 a16 a17 a18 a19 a20 a21 a22 := by
    unfold wX_accepts_19
    rw [nI_clamp (by omega)]
    exact ⟨pk_in s 3 hs, br_c H0 H1⟩
  exact br_c (fun _ => h) (fun _ => ⟨pk_in s 3 hs, br_t (by rw [nI_clamp (by omega)]; exact h10) h⟩)
theorem wr_and0 (x : Int32) : x &&& nI 0 = 0 := Int32.and_zero
theorem wr_0and (x : Int32) : nI 0 &&& x = 0 := Int32.zero_and
theorem wr_cho {post : Int32 → Prop} {x y z : Int32} {r : Nat} (hQ : wr_Q m f1 f4 a8 a9 a10 a11 a12 a13) (hr : r < 2) (hx : x &&& 64 = 0 ↔ r = 0) (H : post (nI r)) : wpX_chosen post (f1, f2, f3, f4, f5, f6, a1, a2, a3, a4, a5, a6, a7, a8, a9, a10, a11, a12, a13, a14, a15, a16, a17, a18, a19, a20, a21, a22) x y z := by
  obtain ⟨rfl, rfl, q80, q81, q82, q90, q91, q92, q100, q101, q102, _⟩ := hQ
  have key : ∀ i : Nat, i = r → wX_chosen_15 post y z (nI i) 7 f2 f3 170 f5 f6 a1 a2 a3 a4 a5 a6 a7 a8 a9 a10 a11 a12 a13 a14 a15 a16 a17 a18 a19 a20 a21 a22 := by
    rintro i rfl
    refine wr_acc (s := 1) (by omega) rfl q101 (fun _ => br_t rfl ?_) (fun h => absurd (by rw [q91]; exact wr_and0 _) h)
    refine wr_acc (s := 2) (by omega) rfl q102 (fun _ => br_t rfl ?_) (fun h => absurd (by rw [q92]; exact wr_and0 _) h)
    have hi : i = 0 ∨ i = 1 := by omega
    rcases hi with rfl | rfl
    · exact br_f (by decide) H
    · exact br_t (by decide) H
  refine wr_acc (s := 0) (by omega) rfl q100 (fun h => br_t rfl (key 0 ?_)) (fun h => br_f (by decide) (key 1 ?_))
  · rw [q90] at h
    exact (hx.mp h).symm
  · rw [q90] at h
    have : ¬ r = 0 := fun z => h (hx.mpr z)
    omega
theorem wr_step {post : Int32 → Prop} {s t c r0 : Nat} {g : Nat → Nat} {y x w : Int32} (hy : y = nI s) (hx : x = nI t) (hw : w = nI c) (hs : s < 3) (ht : t ≤ 4096) (h4 : nI t &&& 4096 = 0 ↔ t ≠ 4096) (hg : ∀ p, p < 12 → a13 (s * 12 + p) = nI (g p)) (h8 : a8 s = nI r0) (hc : c < 2) (H : post (nI (wr_rc g (if t = 4096 then r0 else 0) t 12) &&& (if c = 0 then a11 s else a12 s))) : wpX_step post (f1, f2, f3, f4, f5, f6, a1, a2, a3, a4, a5, a6, a7, a8, a9, a10, a11, a12, a13, a14, a15, a16, a17, a18, a19, a20, a21, a22) y x w := by
  subst hy hx hw
  have key : ∀ r, r = (if t = 4096 then r0 else 0) → ∃ n, wX_step_22 post (nI s) (nI t) (nI c) f1 f2 f3 f4 f5 f6 a1 a2 a3 a4 a5 a6 a7 a8 a9 a10 a11 a12 a13 a14 a15 a16 a17 a18 a19 a20 a21 a22 n (nI r) 0 := by
    intro r hr
    refine pk_loop (σ := Unit) (fun n p _ => wX_step_22 post (nI s) (nI t) (nI c) f1 f2 f3 f4 f5 f6 a1 a2 a3 a4 a5 a6 a7 a8 a9 a10 a11 a12 a13 a14 a15 a16 a17 a18 a19 a20 a21 a22 n (nI (wr_rc g r t p)) (nI p)) (fun _ _ => True) 12 0 () (by omega) trivial ?_ ?_
    · intro n _ _
      rw [← hr] at H
      refine pk_le 12 12 (fun _ => pk_eq c 0 (fun z => ⟨pk_in s 3 hs, ?_⟩) (fun z => ⟨pk_in s 3 hs, ?_⟩)) (fun z => absurd z (by omega))
      · rw [nI_clamp (by omega)]
        rw [if_pos z] at H
        exact H
      · rw [nI_clamp (by omega)]
        rw [if_neg z] at H
        exact H
    · intro n p _ hp _ hw
      have e : nI s * 12 + nI p = nI (s * 12 + p) := by rw [show (12 : Int32) = nI 12 from rfl, pk_mul, nI_add]
      have t1 : wX_step_22 post (nI s) (nI t) (nI c) f1 f2 f3 f4 f5 f6 a1 a2 a3 a4 a5 a6 a7 a8 a9 a10 a11 a12 a13 a14 a15 a16 a17 a18 a19 a20 a21 a22 n (nI (wr_rc g r t (p + 1))) (nI (p + 1)) := hw () trivial
      refine pk_le 12 p (fun z => absurd z (by omega)) (fun _ => pk_eq (t / 2 ^ p % 2) 1 (fun z => ⟨pk_in (s * 12 + p) 36 (by omega) e, nm_r ?_ (nm_r (nI_1 p) t1)⟩) (fun z => nm_r (nI_1 p) ?_) (wr_bit (by omega) (by omega)) rfl (by omega) (by omega))
      · rw [wr_rd (f := a13) e (by omega), hg p hp, wr_or]
        show _ = nI (if t / 2 ^ p % 2 = 1 then _ else _)
        rw [if_pos z]
      · have e' : wr_rc g r t (p + 1) = wr_rc g r t p := if_neg z
        rw [e'] at t1
        exact t1
  refine ek_if h4 (fun z => key 0 (by rw [if_neg z])) (fun z => ⟨pk_in s 3 hs, nm_r (e' := nI r0) (by rw [nI_clamp (by omega)]; exact h8) (key r0 (by rw [if_pos (Decidable.not_not.mp z)]))⟩)
/-- the first n nodes -/
def wr_P (m n : Nat) (a15 a16 a17 a20 : Nat → Int32) : Prop := ∀ j, j < n → a15 j = nI (wr_S m j) ∧ a16 j = nI (wr_z j) ∧ a17 j = nI (wr_z j) ∧ a20 j = nI (wr_H m j)
theorem wr_nar {h : Nat} (hh : h < 2) : vp_nar .boolean (nI h) = nI h := by
  have : h = 0 ∨ h = 1 := by omega
  rcases this with rfl | rfl
  · exact wr_n0
  · exact wr_n1
theorem wr_Pmake {n : Nat} (hP : wr_P m n a15 a16 a17 a20) : wr_P m (n + 1) (upd a15 n (nI (wr_S m n))) (upd a16 n (nI (wr_z n))) (upd a17 n (nI (wr_z n))) (upd a20 n (nI (wr_H m n))) := by
  intro j hj
  by_cases e : j = n
  · rw [e, pk_us, pk_us, pk_us, pk_us]
    exact ⟨rfl, rfl, rfl, rfl⟩
  · rw [pk_un e, pk_un e, pk_un e, pk_un e]
    exact hP j (by omega)
theorem wr_node {post : Int32 → St2 → Prop} {n e t : Nat} {y x x2 x3 : Int32} (hm : m < 128) (hQ : wr_Q m f1 f4 a8 a9 a10 a11 a12 a13) (hP : wr_P m n a15 a16 a17 a20) (he : e ≤ t) (ht : t ≤ n) (ht15 : t < 15) (hn : n ≤ 15) (hy : y = nI e) (hx : x = nI (wr_S m t)) (hx2 : x2 = nI (wr_z t)) (hx3 : x3 = nI (wr_z t)) (hd : ∀ j, e ≤ j → j < t → wr_S m j ≠ wr_S m t) (H : ∀ b15 b16 b17 b20 : Nat → Int32, wr_P m (max n (t + 1)) b15 b16 b17 b20 → post (nI t) (f1, f2, f3, f4, f5, nI (max n (t + 1)), a1, a2, a3, a4, a5, a6, a7, a8, a9, a10, a11, a12, a13, a14, b15, b16, b17, a18, a19, b20, a21, a22)) : wpX_node post (f1, f2, f3, f4, f5, nI n, a1, a2, a3, a4, a5, a6, a7, a8, a9, a10, a11, a12, a13, a14, a15, a16, a17, a18, a19, a20, a21, a22) y x x2 x3 := by
  subst hy hx hx2 hx3
  have hS : ∀ j, j < 15 → wr_S m j ≤ 4096 := fun j hj => (wr_fS4096 m hm j hj).1
  refine pk_loop (σ := Unit) (fun k i _ => wX_node_3 post (nI (wr_S m t)) (nI (wr_z t)) (nI (wr_z t)) f1 f2 f3 f4 f5 (nI n) a1 a2 a3 a4 a5 a6 a7 a8 a9 a10 a11 a12 a13 a14 a15 a16 a17 a18 a19 a20 a21 a22 k (nI i)) (fun i _ => e ≤ i) t e () he (Nat.le_refl e) ?_ ?_
  · intro k _ _
    refine pk_le n t (fun z => ?_) (fun z => ?_)
    · have hnt : t = n := by omega
      subst hnt
      have hF := (wr_fS4096 m hm t ht15).2.2
      refine pk_le 256 t (fun z => absurd z (by omega)) (fun _ => ⟨pk_in t 256 (by omega), nm_r (wr_uk rfl (by omega)) ⟨pk_in t 256 (by omega), nm_r (wr_uk rfl (by omega)) ⟨pk_in t 256 (by omega), nm_r (wr_uk rfl (by omega)) ?_⟩⟩⟩)
      refine wr_cho hQ hF.2 hF.1 ⟨pk_in t 256 (by omega), nm_r (e' := upd a20 t (nI (wr_H m t))) ?_ (nm_r (nI_1 t) ?_)⟩
      · rw [wr_nar hF.2, nI_clamp (by omega)]
      · have h := H (upd a15 t (nI (wr_S m t))) (upd a16 t (nI (wr_z t))) (upd a17 t (nI (wr_z t))) (upd a20 t (nI (wr_H m t))) (by rw [show max t (t + 1) = t + 1 by omega]; exact wr_Pmake hP)
        rw [show max t (t + 1) = t + 1 by omega] at h
        exact h
    · obtain ⟨p1, p2, p3, p4⟩ := hP t z
      refine ⟨pk_in t 256 (by omega), br_t (by rw [nI_clamp (by omega)]; exact p1) ⟨pk_in t 256 (by omega), br_t (by rw [nI_clamp (by omega)]; exact p2) ⟨pk_in t 256 (by omega), br_t (by rw [nI_clamp (by omega)]; exact p3) ?_⟩⟩⟩
      have h := H a15 a16 a17 a20 (by rw [show max n (t + 1) = n by omega]; exact hP)
      rw [show max n (t + 1) = n by omega] at h
      exact h
  · intro k i _ hi hei hw
    have hei' : e ≤ i := hei
    refine pk_le n i (fun z => absurd z (by omega)) (fun _ => ⟨pk_in i 256 (by omega), br_f ?_ (nm_r (nI_1 i) (hw () (by omega)))⟩)
    rw [nI_clamp (by omega), (hP i (by omega)).1]
    have b1 := hS i (by omega)
    have b2 := hS t ht15
    intro h
    exact hd i hei' hi ((nI_eq (by omega) (by omega)).mp h)
theorem wr_node_2 {post : Int32 → St2 → Prop} {n e t : Nat} {y x x2 x3 : Int32} (hm : m < 128) (hQ : wr_Q m f1 f4 a8 a9 a10 a11 a12 a13) (hP : wr_P m n a15 a16 a17 a20) (he : e ≤ t) (ht : t ≤ n) (ht15 : t < 15) (hn : n ≤ 15) (hy : y = nI e) (hx : x = nI (wr_S m t)) (hx2 : x2 = nI (wr_z t)) (hx3 : x3 = nI (wr_z t)) (hd : ∀ j, e ≤ j → j < t → wr_S m j ≠ wr_S m t) (H : ∀ b15 b16 b17 b20 : Nat → Int32, wr_P m (max n (t + 1)) b15 b16 b17 b20 → post (nI t) (f1, f2, f3, f4, f5, nI (max n (t + 1)), a1, a2, a3, a4, a5, a6, a7, a8, a9, a10, a11, a12, a13, a14, b15, b16, b17, a18, a19, b20, a21, a22)) : wpX_node_2 post (f1, f2, f3, f4, f5, nI n, a1, a2, a3, a4, a5, a6, a7, a8, a9, a10, a11, a12, a13, a14, a15, a16, a17, a18, a19, a20, a21, a22) y x x2 x3 := by
  subst hy hx hx2 hx3
  have hS : ∀ j, j < 15 → wr_S m j ≤ 4096 := fun j hj => (wr_fS4096 m hm j hj).1
  refine pk_loop (σ := Unit) (fun k i _ => wX_node_2_3 post (nI (wr_S m t)) (nI (wr_z t)) (nI (wr_z t)) f1 f2 f3 f4 f5 (nI n) a1 a2 a3 a4 a5 a6 a7 a8 a9 a10 a11 a12 a13 a14 a15 a16 a17 a18 a19 a20 a21 a22 k (nI i)) (fun i _ => e ≤ i) t e () he (Nat.le_refl e) ?_ ?_
  · intro k _ _
    refine pk_le n t (fun z => ?_) (fun z => ?_)
    · have hnt : t = n := by omega
      subst hnt
      have hF := (wr_fS4096 m hm t ht15).2.2
      refine pk_le 256 t (fun z => absurd z (by omega)) (fun _ => ⟨pk_in t 256 (by omega), nm_r (wr_uk rfl (by omega)) ⟨pk_in t 256 (by omega), nm_r (wr_uk rfl (by omega)) ⟨pk_in t 256 (by omega), nm_r (wr_uk rfl (by omega)) ?_⟩⟩⟩)
      refine wr_cho hQ hF.2 hF.1 ⟨pk_in t 256 (by omega), nm_r (e' := upd a20 t (nI (wr_H m t))) ?_ (nm_r (nI_1 t) ?_)⟩
      · rw [wr_nar hF.2, nI_clamp (by omega)]
      · have h := H (upd a15 t (nI (wr_S m t))) (upd a16 t (nI (wr_z t))) (upd a17 t (nI (wr_z t))) (upd a20 t (nI (wr_H m t))) (by rw [show max t (t + 1) = t + 1 by omega]; exact wr_Pmake hP)
        rw [show max t (t + 1) = t + 1 by omega] at h
        exact h
    · obtain ⟨p1, p2, p3, p4⟩ := hP t z
      refine ⟨pk_in t 256 (by omega), br_t (by rw [nI_clamp (by omega)]; exact p1) ⟨pk_in t 256 (by omega), br_t (by rw [nI_clamp (by omega)]; exact p2) ⟨pk_in t 256 (by omega), br_t (by rw [nI_clamp (by omega)]; exact p3) ?_⟩⟩⟩
      have h := H a15 a16 a17 a20 (by rw [show max n (t + 1) = n by omega]; exact hP)
      rw [show max n (t + 1) = n by omega] at h
      exact h
  · intro k i _ hi hei hw
    have hei' : e ≤ i := hei
    refine pk_le n i (fun z => absurd z (by omega)) (fun _ => ⟨pk_in i 256 (by omega), br_f ?_ (nm_r (nI_1 i) (hw () (by omega)))⟩)
    rw [nI_clamp (by omega), (hP i (by omega)).1]
    have b1 := hS i (by omega)
    have b2 := hS t ht15
    intro h
    exact hd i hei' hi ((nI_eq (by omega) (by omega)).mp h)
theorem wr_node_3 {post : Int32 → St2 → Prop} {n e t : Nat} {y x x2 x3 : Int32} (hm : m < 128) (hQ : wr_Q m f1 f4 a8 a9 a10 a11 a12 a13) (hP : wr_P m n a15 a16 a17 a20) (he : e ≤ t) (ht : t ≤ n) (ht15 : t < 15) (hn : n ≤ 15) (hy : y = nI e) (hx : x = nI (wr_S m t)) (hx2 : x2 = nI (wr_z t)) (hx3 : x3 = nI (wr_z t)) (hd : ∀ j, e ≤ j → j < t → wr_S m j ≠ wr_S m t) (H : ∀ b15 b16 b17 b20 : Nat → Int32, wr_P m (max n (t + 1)) b15 b16 b17 b20 → post (nI t) (f1, f2, f3, f4, f5, nI (max n (t + 1)), a1, a2, a3, a4, a5, a6, a7, a8, a9, a10, a11, a12, a13, a14, b15, b16, b17, a18, a19, b20, a21, a22)) : wpX_node_3 post (f1, f2, f3, f4, f5, nI n, a1, a2, a3, a4, a5, a6, a7, a8, a9, a10, a11, a12, a13, a14, a15, a16, a17, a18, a19, a20, a21, a22) y x x2 x3 := by
  subst hy hx hx2 hx3
  have hS : ∀ j, j < 15 → wr_S m j ≤ 4096 := fun j hj => (wr_fS4096 m hm j hj).1
  refine pk_loop (σ := Unit) (fun k i _ => wX_node_3_3 post (nI (wr_S m t)) (nI (wr_z t)) (nI (wr_z t)) f1 f2 f3 f4 f5 (nI n) a1 a2 a3 a4 a5 a6 a7 a8 a9 a10 a11 a12 a13 a14 a15 a16 a17 a18 a19 a20 a21 a22 k (nI i)) (fun i _ => e ≤ i) t e () he (Nat.le_refl e) ?_ ?_
  · intro k _ _
    refine pk_le n t (fun z => ?_) (fun z => ?_)
    · have hnt : t = n := by omega
      subst hnt
      have hF := (wr_fS4096 m hm t ht15).2.2
      refine pk_le 256 t (fun z => absurd z (by omega)) (fun _ => ⟨pk_in t 256 (by omega), nm_r (wr_uk rfl (by omega)) ⟨pk_in t 256 (by omega), nm_r (wr_uk rfl (by omega)) ⟨pk_in t 256 (by omega), nm_r (wr_uk rfl (by omega)) ?_⟩⟩⟩)
      refine wr_cho hQ hF.2 hF.1 ⟨pk_in t 256 (by omega), nm_r (e' := upd a20 t (nI (wr_H m t))) ?_ (nm_r (nI_1 t) ?_)⟩
      · rw [wr_nar hF.2, nI_clamp (by omega)]
      · have h := H (upd a15 t (nI (wr_S m t))) (upd a16 t (nI (wr_z t))) (upd a17 t (nI (wr_z t))) (upd a20 t (nI (wr_H m t))) (by rw [show max t (t + 1) = t + 1 by omega]; exact wr_Pmake hP)
        rw [show max t (t + 1) = t + 1 by omega] at h
        exact h
    · obtain ⟨p1, p2, p3, p4⟩ := hP t z
      refine ⟨pk_in t 256 (by omega), br_t (by rw [nI_clamp (by omega)]; exact p1) ⟨pk_in t 256 (by omega), br_t (by rw [nI_clamp (by omega)]; exact p2) ⟨pk_in t 256 (by omega), br_t (by rw [nI_clamp (by omega)]; exact p3) ?_⟩⟩⟩
      have h := H a15 a16 a17 a20 (by rw [show max n (t + 1) = n by omega]; exact hP)
      rw [show max n (t + 1) = n by omega] at h
      exact h
  · intro k i _ hi hei hw
    have hei' : e ≤ i := hei
    refine pk_le n i (fun z => absurd z (by omega)) (fun _ => ⟨pk_in i 256 (by omega), br_f ?_ (nm_r (nI_1 i) (hw () (by omega)))⟩)
    rw [nI_clamp (by omega), (hP i (by omega)).1]
    have b1 := hS i (by omega)
    have b2 := hS t ht15
    intro h
    exact hd i hei' hi ((nI_eq (by omega) (by omega)).mp h)
theorem wr_fz (i : Nat) : (nI (wr_z i) &&& 4096 = 0 ↔ wr_z i ≠ 4096) ∧ wr_z i ≤ 4096 ∧ wr_rc (fun _ => 0) (if wr_z i = 4096 then 0 else 0) (wr_z i) 12 = 0 := by
  have : wr_z i = 0 ∨ wr_z i = 4096 := by
    unfold wr_z
    by_cases e : i = 0
    · exact Or.inr (if_pos e)
    · exact Or.inl (if_neg e)
  rcases this with e | e
  · rw [e]; decide +kernel
  · rw [e]; decide +kernel
theorem wr_fo0 {p : Nat} (h : 6 ≤ p) : wr_fo p = 0 := if_neg (by omega)
theorem wr_child {post : Int32 → St2 → Prop} {n i c : Nat} {y x w : Int32} (hm : m < 128) (hQ : wr_Q m f1 f4 a8 a9 a10 a11 a12 a13) (hP : wr_P m n a15 a16 a17 a20) (hi : i < 13) (hin : i < n) (hc : c < 2) (hK : wr_K m c i ≤ n) (hn : n ≤ 15) (hy : y = nI (2 * wr_dp i + 1)) (hx : x = nI i) (hw : w = nI c) (H : ∀ b15 b16 b17 b20 : Nat → Int32, wr_P m (max n (wr_K m c i + 1)) b15 b16 b17 b20 → post (nI (wr_K m c i)) (f1, f2, f3, f4, f5, nI (max n (wr_K m c i + 1)), a1, a2, a3, a4, a5, a6, a7, a8, a9, a10, a11, a12, a13, a14, b15, b16, b17, a18, a19, b20, a21, a22)) : wpX_child post (f1, f2, f3, f4, f5, nI n, a1, a2, a3, a4, a5, a6, a7, a8, a9, a10, a11, a12, a13, a14, a15, a16, a17, a18, a19, a20, a21, a22) y x w := by
  subst hy hx hw
  obtain ⟨p1, p2, p3, p4⟩ := hP i hin
  have hQ' := hQ
  obtain ⟨_, _, q80, q81, q82, _, _, _, _, _, _, q11, q12, q13⟩ := hQ'
  have hF := wr_fS4096 m hm i (by omega)
  have hz := wr_fz i
  obtain ⟨k1, k2, k3⟩ := (wr_fK m hm i hi).1 c hc
  have hd : wr_dp i ≤ 6 := by unfold wr_dp; omega
  have hzK : wr_z (wr_K m c i) = 0 := if_neg (by omega)
  refine ⟨pk_in i 256 (by omega), wr_step (s := 0) (t := wr_S m i) (c := c) (g := wr_fo) (r0 := 1) rfl (by rw [nI_clamp (by omega)]; exact p1) rfl (by omega) hF.1 hF.2.1 (fun p hp => ?_) q80 hc ⟨pk_in i 256 (by omega), wr_step (s := 1) (t := wr_z i) (c := c) (g := fun _ => 0) (r0 := 0) rfl (by rw [nI_clamp (by omega)]; exact p2) rfl (by omega) hz.2.1 hz.1 (fun p hp => ?_) q81 hc ⟨pk_in i 256 (by omega), wr_step (s := 2) (t := wr_z i) (c := c) (g := fun _ => 0) (r0 := 0) rfl (by rw [nI_clamp (by omega)]; exact p3) rfl (by omega) hz.2.1 hz.1 (fun p hp => ?_) q82 hc ?_⟩⟩⟩
  · rw [q13 _ (by omega), Nat.zero_mul, Nat.zero_add]
  · rw [q13 _ (by omega), wr_fo0 (by omega)]
  · rw [q13 _ (by omega), wr_fo0 (by omega)]
  refine wr_node_2 (n := n) (e := 2 * wr_dp i + 1) (t := wr_K m c i) hm hQ hP k1 hK (by omega) hn rfl ?_ ?_ ?_ (fun j h1 h2 => k3 j (by omega) h1 h2) (fun b15 b16 b17 b20 h => H b15 b16 b17 b20 h)
  · have e : (if c = 0 then a11 0 else a12 0) = nI (wr_zo m c 7) := by
      have : c = 0 ∨ c = 1 := by omega
      rcases this with rfl | rfl
      · exact q11
      · exact q12
    rw [e, wr_and, wr_fStep m hm i hi c hc]
  · rw [hz.2.2, hzK]; exact wr_0and _
  · rw [hz.2.2, hzK]; exact wr_0and _
theorem wr_child_2 {post : Int32 → St2 → Prop} {n i c : Nat} {y x w : Int32} (hm : m < 128) (hQ : wr_Q m f1 f4 a8 a9 a10 a11 a12 a13) (hP : wr_P m n a15 a16 a17 a20) (hi : i < 13) (hin : i < n) (hc : c < 2) (hK : wr_K m c i ≤ n) (hn : n ≤ 15) (hy : y = nI (2 * wr_dp i + 1)) (hx : x = nI i) (hw : w = nI c) (H : ∀ b15 b16 b17 b20 : Nat → Int32, wr_P m (max n (wr_K m c i + 1)) b15 b16 b17 b20 → post (nI (wr_K m c i)) (f1, f2, f3, f4, f5, nI (max n (wr_K m c i + 1)), a1, a2, a3, a4, a5, a6, a7, a8, a9, a10, a11, a12, a13, a14, b15, b16, b17, a18, a19, b20, a21, a22)) : wpX_child_2 post (f1, f2, f3, f4, f5, nI n, a1, a2, a3, a4, a5, a6, a7, a8, a9, a10, a11, a12, a13, a14, a15, a16, a17, a18, a19, a20, a21, a22) y x w := by
  subst hy hx hw
  obtain ⟨p1, p2, p3, p4⟩ := hP i hin
  have hQ' := hQ
  obtain ⟨_, _, q80, q81, q82, _, _, _, _, _, _, q11, q12, q13⟩ := hQ'
  have hF := wr_fS4096 m hm i (by omega)
  have hz := wr_fz i
  obtain ⟨k1, k2, k3⟩ := (wr_fK m hm i hi).1 c hc
  have hd : wr_dp i ≤ 6 := by unfold wr_dp; omega
  have hzK : wr_z (wr_K m c i) = 0 := if_neg (by omega)
  refine ⟨pk_in i 256 (by omega), wr_step (s := 0) (t := wr_S m i) (c := c) (g := wr_fo) (r0 := 1) rfl (by rw [nI_clamp (by omega)]; exact p1) rfl (by omega) hF.1 hF.2.1 (fun p hp => ?_) q80 hc ⟨pk_in i 256 (by omega), wr_step (s := 1) (t := wr_z i) (c := c) (g := fun _ => 0) (r0 := 0) rfl (by rw [nI_clamp (by omega)]; exact p2) rfl (by omega) hz.2.1 hz.1 (fun p hp => ?_) q81 hc ⟨pk_in i 256 (by omega), wr_step (s := 2) (t := wr_z i) (c := c) (g := fun _ => 0) (r0 := 0) rfl (by rw [nI_clamp (by omega)]; exact p3) rfl (by omega) hz.2.1 hz.1 (fun p hp => ?_) q82 hc ?_⟩⟩⟩
  · rw [q13 _ (by omega), Nat.zero_mul, Nat.zero_add]
  · rw [q13 _ (by omega), wr_fo0 (by omega)]
  · rw [q13 _ (by omega), wr_fo0 (by omega)]
  refine wr_node_3 (n := n) (e := 2 * wr_dp i + 1) (t := wr_K m c i) hm hQ hP k1 hK (by omega) hn rfl ?_ ?_ ?_ (fun j h1 h2 => k3 j (by omega) h1 h2) (fun b15 b16 b17 b20 h => H b15 b16 b17 b20 h)
  · have e : (if c = 0 then a11 0 else a12 0) = nI (wr_zo m c 7) := by
      have : c = 0 ∨ c = 1 := by omega
      rcases this with rfl | rfl
      · exact q11
      · exact q12
    rw [e, wr_and, wr_fStep m hm i hi c hc]
  · rw [hz.2.2, hzK]; exact wr_0and _
  · rw [hz.2.2, hzK]; exact wr_0and _
def wr_B (m i : Nat) (a15 a16 a17 a18 a19 a20 : Nat → Int32) : Prop := wr_P m (wr_N m i) a15 a16 a17 a20 ∧ ∀ j, j < i → a18 j = nI (wr_K m 0 j) ∧ a19 j = nI (wr_K m 1 j)
theorem wr_Nlt (m i : Nat) : i < wr_N m i := by
  unfold wr_N
  by_cases h : i = 0
  · rw [if_pos h]; omega
  · rw [if_neg h]
    by_cases h2 : i % 2 = 1
    · rw [if_pos h2]; omega
    · rw [if_neg h2]
      by_cases h3 : wr_live m (i - 1) = true
      · rw [if_pos h3]; omega
      · rw [if_neg h3]; omega
theorem wr_b66 {post : St2 → Prop} {J : Int32 → Int32 → Int32 → Int32 → Int32 → Int32 → Int32 → (Nat → Int32) → (Nat → Int32) → (Nat → Int32) → (Nat → Int32) → (Nat → Int32) → (Nat → Int32) → (Nat → Int32) → (Nat → Int32) → (Nat → Int32) → (Nat → Int32) → (Nat → Int32) → (Nat → Int32) → (Nat → Int32) → (Nat → Int32) → (Nat → Int32) → (Nat → Int32) → (Nat → Int32) → (Nat → Int32) → (Nat → Int32) → (Nat → Int32) → (Nat → Int32) → (Nat → Int32) → Prop} {d : Nat} (hd : d < 7) (hm : m < 128) (hQ : wr_Q m f1 f4 a8 a9 a10 a11 a12 a13) (h0 : wr_B m (2 * d - 1) a15 a16 a17 a18 a19 a20) (H : ∀ b15 b16 b17 b18 b19 b20 : Nat → Int32, wr_B m (2 * d + 1) b15 b16 b17 b18 b19 b20 → J (nI (d + 1)) f1 f2 f3 f4 f5 (nI (2 * d + 3)) a1 a2 a3 a4 a5 a6 a7 a8 a9 a10 a11 a12 a13 a14 b15 b16 b17 b18 b19 b20 a21 a22) : ∃ n, wX_build_66 post J (nI d) (nI (2 * d + 1)) n (nI (2 * d - 1)) f1 f2 f3 f4 f5 (nI (2 * d + 1)) a1 a2 a3 a4 a5 a6 a7 a8 a9 a10 a11 a12 a13 a14 a15 a16 a17 a18 a19 a20 a21 a22 := by
  have hl := pk_loop (σ := (Nat → Int32) × (Nat → Int32) × (Nat → Int32) × (Nat → Int32) × (Nat → Int32) × (Nat → Int32)) (fun n i s => wX_build_66 post J (nI d) (nI (2 * d + 1)) n (nI i) f1 f2 f3 f4 f5 (nI (wr_N m i)) a1 a2 a3 a4 a5 a6 a7 a8 a9 a10 a11 a12 a13 a14 s.1 s.2.1 s.2.2.1 s.2.2.2.1 s.2.2.2.2.1 s.2.2.2.2.2 a21 a22) (fun i s => 2 * d - 1 ≤ i ∧ wr_B m i s.1 s.2.1 s.2.2.1 s.2.2.2.1 s.2.2.2.2.1 s.2.2.2.2.2) (2 * d + 1) (2 * d - 1) (a15, a16, a17, a18, a19, a20) (by omega) ⟨Nat.le_refl _, h0⟩ ?_ ?_
  · obtain ⟨n, hn⟩ := hl
    have hn' : wX_build_66 post J (nI d) (nI (2 * d + 1)) n (nI (2 * d - 1)) f1 f2 f3 f4 f5 (nI (wr_N m (2 * d - 1))) a1 a2 a3 a4 a5 a6 a7 a8 a9 a10 a11 a12 a13 a14 a15 a16 a17 a18 a19 a20 a21 a22 := hn
    rw [wr_fN m d] at hn'
    exact ⟨n, hn'⟩
  · rintro n ⟨s15, s16, s17, s18, s19, s20⟩ ⟨_, hB⟩
    have h := H s15 s16 s17 s18 s19 s20 hB
    have eN : wr_N m (2 * d + 1) = 2 * d + 3 := wr_fN m (d + 1)
    refine pk_le (2 * d + 1) (2 * d + 1) (fun _ => nm_r (nI_1 d) ?_) (fun z => absurd z (by omega))
    rw [← eN] at h
    exact h
  · rintro n i ⟨s15, s16, s17, s18, s19, s20⟩ hi ⟨hi', hP, hK⟩ hw
    have hi'' : 2 * d - 1 ≤ i := hi'
    obtain ⟨_, k0, k1, kN, kB⟩ := wr_fK m hm i (by omega)
    have hN := wr_Nlt m i
    have ed : wr_dp i = d := by unfold wr_dp; omega
    have kc0 := ((wr_fK m hm i (by omega)).1 0 (by omega)).2.1
    have kc1 := ((wr_fK m hm i (by omega)).1 1 (by omega)).2.1
    refine pk_le (2 * d + 1) i (fun z => absurd z (by omega)) (fun _ => wr_child (n := wr_N m i) (i := i) (c := 0) hm hQ hP (by omega) hN (by omega) k0 kB (by rw [ed]) rfl rfl (fun b15 b16 b17 b20 hP' => ⟨pk_in i 256 (by omega), nm_r (wr_uk rfl (by omega)) (wr_child_2 (n := max (wr_N m i) (wr_K m 0 i + 1)) (i := i) (c := 1) hm hQ hP' (by omega) (by omega) (by omega) k1 (by omega) (by rw [ed]) rfl rfl (fun c15 c16 c17 c20 hP'' => ⟨pk_in i 256 (by omega), nm_r (wr_uk rfl (by omega)) (nm_r (nI_1 i) ?_)⟩))⟩))
    have t : wX_build_66 post J (nI d) (nI (2 * d + 1)) n (nI (i + 1)) f1 f2 f3 f4 f5 (nI (wr_N m (i + 1))) a1 a2 a3 a4 a5 a6 a7 a8 a9 a10 a11 a12 a13 a14 c15 c16 c17 (upd s18 i (nI (wr_K m 0 i))) (upd s19 i (nI (wr_K m 1 i))) c20 a21 a22 := by
      refine hw (c15, c16, c17, upd s18 i (nI (wr_K m 0 i)), upd s19 i (nI (wr_K m 1 i)), c20) ⟨by omega, ?_, fun j hj => ?_⟩
      · rw [kN]; exact hP''
      · dsimp only
        by_cases e : j = i
        · rw [e, pk_us, pk_us]; exact ⟨rfl, rfl⟩
        · rw [pk_un e, pk_un e]; exact hK j (by omega)
    rw [kN] at t
    exact t
theorem wr_b37 {post : St2 → Prop} (hm : m < 128) (hQ : wr_Q m f1 f4 a8 a9 a10 a11 a12 a13) (h0 : wr_B m 0 a15 a16 a17 a18 a19 a20) (h14 : a14 0 = nI 0) (H : ∀ u', wr_G m u' → post u') : ∃ n, wX_build_37 post n 0 f1 f2 f3 f4 f5 (nI 1) a1 a2 a3 a4 a5 a6 a7 a8 a9 a10 a11 a12 a13 a14 a15 a16 a17 a18 a19 a20 a21 a22 := by
  have hf1 : f1 = 7 := hQ.1
  refine pk_loop (σ := (Nat → Int32) × (Nat → Int32) × (Nat → Int32) × (Nat → Int32) × (Nat → Int32) × (Nat → Int32) × (Nat → Int32)) (fun n d s => wX_build_37 post n (nI d) f1 f2 f3 f4 f5 (nI (2 * d + 1)) a1 a2 a3 a4 a5 a6 a7 a8 a9 a10 a11 a12 a13 s.1 s.2.1 s.2.2.1 s.2.2.2.1 s.2.2.2.2.1 s.2.2.2.2.2.1 s.2.2.2.2.2.2 a21 a22) (fun d s => (∀ j, j < d + 1 → s.1 j = nI (2 * j - 1)) ∧ wr_B m (2 * d - 1) s.2.1 s.2.2.1 s.2.2.2.1 s.2.2.2.2.1 s.2.2.2.2.2.1 s.2.2.2.2.2.2) 7 0 (a14, a15, a16, a17, a18, a19, a20) (by omega) ⟨fun j hj => ?_, h0⟩ ?_ ?_
  · have : j = 0 := by omega
    subst this
    exact h14
  · rintro n ⟨s14, s15, s16, s17, s18, s19, s20⟩ ⟨hl, hP, hK⟩
    subst hf1
    refine pk_le 7 7 (fun _ => ⟨pk_in 8 10 (by omega), nm_r (wr_uk (K := 8) rfl (by omega)) (H _ ⟨rfl, rfl, fun d hd => ?_, hK, fun i hi => ?_⟩)⟩) (fun z => absurd z (by omega))
    · by_cases e : d = 8
      · rw [e, pk_us]
      · rw [pk_un e]; exact hl d (by omega)
    · have eN : wr_N m (2 * 7 - 1) = 15 := wr_fN m 7
      rw [eN] at hP
      exact (hP i hi).2.2.2
  · rintro n d ⟨s14, s15, s16, s17, s18, s19, s20⟩ hd ⟨hl, hB⟩ hw
    dsimp only at hl hB
    subst hf1
    have hl' : ∀ j, j < d + 1 + 1 → upd s14 (d + 1) (nI (2 * d + 1)) j = nI (2 * j - 1) := by
      intro j hj
      by_cases e : j = d + 1
      · rw [e, pk_us, show 2 * (d + 1) - 1 = 2 * d + 1 by omega]
      · rw [pk_un e]; exact hl j (by omega)
    refine pk_le 7 d (fun z => absurd z (by omega)) (fun _ => ⟨pk_in (d + 1) 10 (by omega) (nI_1 d), nm_r (wr_uk (nI_1 d) (by omega)) ⟨pk_in d 10 (by omega), nm_r (e' := nI (2 * d - 1)) ?_ (wr_b66 hd hm hQ hB (fun b15 b16 b17 b18 b19 b20 hB' => ?_))⟩⟩)
    · rw [nI_clamp (by omega), hl' d (by omega)]
    · have t : wX_build_37 post n (nI (d + 1)) 7 f2 f3 f4 f5 (nI (2 * (d + 1) + 1)) a1 a2 a3 a4 a5 a6 a7 a8 a9 a10 a11 a12 a13 (upd s14 (d + 1) (nI (2 * d + 1))) b15 b16 b17 b18 b19 b20 a21 a22 := by
        refine hw (upd s14 (d + 1) (nI (2 * d + 1)), b15, b16, b17, b18, b19, b20) ⟨hl', ?_⟩
        rw [show 2 * (d + 1) - 1 = 2 * d + 1 by omega]
        exact hB'
      rw [show 2 * (d + 1) + 1 = 2 * d + 3 by omega] at t
      exact t
theorem wr_S0 : ∀ m, m < 128 → wr_S m 0 = 4096 := by decide +kernel
theorem wr_build {post : St2 → Prop} {u : St2} (hm : m < 128) (hR : wr_R m u) (H : ∀ u', wr_G m u' → post u') : wpX_build post u := by
  obtain ⟨f1, f2, f3, f4, f5, f6, a1, a2, a3, a4, a5, a6, a7, a8, a9, a10, a11, a12, a13, a14, a15, a16, a17, a18, a19, a20, a21, a22⟩ := u
  rcases hR with hU | hG
  · obtain ⟨rfl, hQ⟩ := hU
    refine br_t rfl (nm_e ?_)
    refine wr_node (n := 0) (e := 0) (t := 0) hm hQ (fun j hj => absurd hj (by omega)) (by omega) (by omega) (by omega) (by omega) rfl (by rw [wr_S0 m hm]; rfl) rfl rfl (fun j h1 h2 => absurd h2 (by omega)) (fun b15 b16 b17 b20 h => ?_)
    exact wr_b37 hm hQ ⟨h, fun j hj => absurd hj (by omega)⟩ pk_us H
  · have h5 : f5 = 1 := hG.2.1
    exact br_f (by rw [h5]; decide) (H _ hG)
end wr3
end
section
/-! the ways: fill, shorter, total, wordLen, wordBits -/
section wr4
variable {f1 f2 f3 f4 f5 f6 : Int32} {a1 a2 a3 a4 a5 a6 a7 a8 a9 a10 a11 a12 a13 a14 a15 a16 a17 a18 a19 a20 a21 a22 : Nat → Int32} {m : Nat}
def wr_W (u : St2) : Nat → Int32 := match u with
  | (f1, f2, f3, f4, f5, f6, a1, a2, a3, a4, a5, a6, a7, a8, a9, a10, a11, a12, a13, a14, a15, a16, a17, a18, a19, a20, a21, a22) => a21
theorem wr_f1 (hR : wr_R m (f1, f2, f3, f4, f5, f6, a1, a2, a3, a4, a5, a6, a7, a8, a9, a10, a11, a12, a13, a14, a15, a16, a17, a18, a19, a20, a21, a22)) : f1 = 7 := by
  rcases hR with hU | hG
  · exact hU.2.1
  · exact hG.1
theorem wr_G21 (h : wr_G m (f1, f2, f3, f4, f5, f6, a1, a2, a3, a4, a5, a6, a7, a8, a9, a10, a11, a12, a13, a14, a15, a16, a17, a18, a19, a20, a21, a22)) (s : Nat → Int32) : wr_G m (f1, f2, f3, f4, f5, f6, a1, a2, a3, a4, a5, a6, a7, a8, a9, a10, a11, a12, a13, a14, a15, a16, a17, a18, a19, a20, s, a22) := by
  obtain ⟨h1, h2, h3, h4, h5⟩ := h
  exact ⟨h1, h2, h3, h4, h5⟩
theorem wr_G22 (h : wr_G m (f1, f2, f3, f4, f5, f6, a1, a2, a3, a4, a5, a6, a7, a8, a9, a10, a11, a12, a13, a14, a15, a16, a17, a18, a19, a20, a21, a22)) (s : Nat → Int32) : wr_G m (f1, f2, f3, f4, f5, f6, a1, a2, a3, a4, a5, a6, a7, a8, a9, a10, a11, a12, a13, a14, a15, a16, a17, a18, a19, a20, a21, s) := by
  obtain ⟨h1, h2, h3, h4, h5⟩ := h
  exact ⟨h1, h2, h3, h4, h5⟩
theorem wr_m1 (x : Int32) : x + (-1) = x - 1 := (Int32.sub_eq_add_neg x 1).symm
theorem wr_f58 {post : St2 → Prop} {l : Nat} (hm : m < 128) (hl : l < 8) (hG : wr_G m (7, f2, f3, f4, 1, f6, a1, a2, a3, a4, a5, a6, a7, a8, a9, a10, a11, a12, a13, a14, a15, a16, a17, a18, a19, a20, a21, a22)) (hs : ∀ j, 2 * l - 1 ≤ j → j < 2 * l + 1 → a21 j = nI (wr_wv m l j)) (H : ∀ s : Nat → Int32, (∀ i, i < 2 * l + 1 → s i = nI (wr_wv m l i)) → post (7, f2, f3, f4, 1, f6, a1, a2, a3, a4, a5, a6, a7, a8, a9, a10, a11, a12, a13, a14, a15, a16, a17, a18, a19, a20, s, a22)) : ∃ n, wX_fill_58 post 7 f2 f3 f4 1 f6 n (nI (2 * l - 1) - 1) a1 a2 a3 a4 a5 a6 a7 a8 a9 a10 a11 a12 a13 a14 a15 a16 a17 a18 a19 a20 a21 a22 := by
  obtain ⟨_, _, h14, hK, hH⟩ := hG
  obtain ⟨w1, w2⟩ := wr_fW m hm l hl
  refine ⟨_, pk_loopD (fun n e s => wX_fill_58 post 7 f2 f3 f4 1 f6 n (nI e - 1) a1 a2 a3 a4 a5 a6 a7 a8 a9 a10 a11 a12 a13 a14 a15 a16 a17 a18 a19 a20 s a22) (fun e s => e ≤ 2 * l - 1 ∧ ∀ j, e ≤ j → j < 2 * l + 1 → s j = nI (wr_wv m l j)) ?_ ?_ (2 * l - 1) a21 ⟨Nat.le_refl _, hs⟩⟩
  · rintro n s ⟨_, h⟩
    exact br_t (by decide) (H s (fun i hi => h i (by omega) hi))
  · rintro n e s ⟨he, h⟩ hw
    show wX_fill_58 post 7 f2 f3 f4 1 f6 (n + 1) (nI (e + 1) - 1) a1 a2 a3 a4 a5 a6 a7 a8 a9 a10 a11 a12 a13 a14 a15 a16 a17 a18 a19 a20 s a22
    rw [nI_pred e]
    obtain ⟨k1, k2⟩ := hK e (by omega)
    obtain ⟨b1, b2, _⟩ := (wr_fK m hm e (by omega)).1 0 (by omega)
    obtain ⟨c1, c2, _⟩ := (wr_fK m hm e (by omega)).1 1 (by omega)
    have hd1 : e + 1 ≤ 2 * wr_dp e + 1 := by unfold wr_dp; omega
    have hd2 : 2 * wr_dp e + 3 ≤ 2 * l + 1 := by unfold wr_dp; omega
    have e0 : a18 (nI e).toNatClampNeg = nI (wr_K m 0 e) := by rw [nI_clamp (by omega)]; exact k1
    have e1 : a19 (nI e).toNatClampNeg = nI (wr_K m 1 e) := by rw [nI_clamp (by omega)]; exact k2
    refine pk_lt e 0 (fun z => absurd z (by omega)) (fun _ => ⟨pk_in e 256 (by omega), pk_in (wr_K m 0 e) 256 (by omega) e0, pk_in e 256 (by omega), pk_in (wr_K m 1 e) 256 (by omega) e1, pk_in e 256 (by omega), nm_r (e' := upd s e (nI (wr_wv m l e))) ?_ (nm_r (wr_m1 _) (hw _ ⟨by omega, fun j h1 h2 => ?_⟩))⟩)
    · rw [wr_rd (f := s) e0 (by omega), wr_rd (f := s) e1 (by omega), h _ (by omega) (by omega), h _ (by omega) (by omega), nI_add, w1 e (by omega), nI_clamp (by omega)]
    · by_cases ej : j = e
      · rw [ej, pk_us]
      · rw [pk_un ej]; exact h j (by omega) h2
theorem wr_fill {post : St2 → Prop} {u : St2} {l : Nat} {x : Int32} (hm : m < 128) (hR : wr_R m u) (hl : l < 8) (hx : x = nI l) (H : ∀ u', wr_G m u' → (∀ i, i < 2 * l + 1 → wr_W u' i = nI (wr_wv m l i)) → post u') : wpX_fill post u x := by
  subst hx
  obtain ⟨f1, f2, f3, f4, f5, f6, a1, a2, a3, a4, a5, a6, a7, a8, a9, a10, a11, a12, a13, a14, a15, a16, a17, a18, a19, a20, a21, a22⟩ := u
  unfold wpX_fill
  refine wr_build hm hR (fun u' hG => ?_)
  obtain ⟨g1, g2, g3, g4, g5, g6, b1, b2, b3, b4, b5, b6, b7, b8, b9, b10, b11, b12, b13, b14, b15, b16, b17, b18, b19, b20, b21, b22⟩ := u'
  have hG' := hG
  obtain ⟨rfl, rfl, h14, hK, hH⟩ := hG'
  obtain ⟨w1, w2⟩ := wr_fW m hm l hl
  have eL : b14 (nI l + 1).toNatClampNeg = nI (2 * l + 1) := by
    rw [nI_1, nI_clamp (by omega), h14 (l + 1) (by omega)]
    exact congrArg nI (by omega)
  refine ⟨pk_in l 10 (by omega), nm_r (e' := nI (2 * l - 1)) (by rw [nI_clamp (by omega)]; exact h14 l (by omega)) ?_⟩
  refine pk_loop (fun n i s => wX_fill_11 post (nI l) 7 g2 g3 g4 1 g6 n (nI i) b1 b2 b3 b4 b5 b6 b7 b8 b9 b10 b11 b12 b13 b14 b15 b16 b17 b18 b19 b20 s b22) (fun i s => 2 * l - 1 ≤ i ∧ ∀ j, 2 * l - 1 ≤ j → j < i → s j = nI (wr_wv m l j)) (2 * l + 1) (2 * l - 1) b21 (by omega) ⟨Nat.le_refl _, fun j h1 h2 => absurd h2 (by omega)⟩ ?_ ?_
  · rintro n s ⟨_, hs⟩
    refine ⟨pk_in (l + 1) 10 (by omega) (nI_1 l), pk_le (2 * l + 1) (2 * l + 1) (fun _ => ⟨pk_in l 10 (by omega), nm_r (e' := nI (2 * l - 1) - 1) ?_ ?_⟩) (fun z => absurd z (by omega)) eL⟩
    · rw [nI_clamp (by omega), h14 l (by omega)]
    · exact wr_f58 hm hl (wr_G21 hG s) hs (fun s' h' => H (7, g2, g3, g4, 1, g6, b1, b2, b3, b4, b5, b6, b7, b8, b9, b10, b11, b12, b13, b14, b15, b16, b17, b18, b19, b20, s', b22) (wr_G21 hG s') h')
  · rintro n i s hi ⟨hi', hs⟩ hw
    have eH : b20 (nI i).toNatClampNeg = nI (wr_H m i) := by rw [nI_clamp (by omega)]; exact hH i (by omega)
    have hHv := w2 i hi hi'
    have hH2 := (wr_fS4096 m hm i (by omega)).2.2.2
    have hs' : ∀ j, 2 * l - 1 ≤ j → j < i + 1 → upd s i (nI (wr_H m i)) j = nI (wr_wv m l j) := by
      intro j h1 h2
      by_cases e : j = i
      · rw [e, pk_us, hHv]
      · rw [pk_un e]; exact hs j h1 (by omega)
    refine ⟨pk_in (l + 1) 10 (by omega) (nI_1 l), pk_le (2 * l + 1) i (fun z => absurd z (by omega)) (fun _ => ⟨pk_in i 256 (by omega), pk_eq (wr_H m i) 0 (fun z => ⟨pk_in i 256 (by omega), nm_r (e' := upd s i (nI (wr_H m i))) ?_ (nm_r (nI_1 i) (hw _ ⟨by omega, hs'⟩))⟩) (fun z => ⟨pk_in i 256 (by omega), nm_r (e' := upd s i (nI (wr_H m i))) ?_ (nm_r (nI_1 i) (hw _ ⟨by omega, hs'⟩))⟩) eH⟩) eL⟩
    · rw [z, nI_clamp (by omega)]; rfl
    · rw [show wr_H m i = 1 by omega, nI_clamp (by omega)]; rfl
def wr_sm (l : Nat) : Nat := if l = 8 then 1 else 0
theorem wr_shorter {post : Int32 → St2 → Prop} {u : St2} {l : Nat} {x : Int32} (hm : m < 128) (hR : wr_R m u) (hl : l ≤ 8) (hx : x = nI l) (H : ∀ u', wr_R m u' → post (nI (wr_sm l)) u') : wpX_shorter post u x := by
  subst hx
  have key : ∃ n, wr_ap (wX_shorter_4 post (nI l) n (nI (wr_sm 0)) (nI 0)) u := by
    refine pk_loop (σ := St2) (fun n k u => wr_ap (wX_shorter_4 post (nI l) n (nI (wr_sm k)) (nI k)) u) (fun _ u => wr_R m u) l 0 u (by omega) hR ?_ ?_
    · intro n u hR
      obtain ⟨f1, f2, f3, f4, f5, f6, a1, a2, a3, a4, a5, a6, a7, a8, a9, a10, a11, a12, a13, a14, a15, a16, a17, a18, a19, a20, a21, a22⟩ := u
      exact pk_le l l (fun _ => H _ hR) (fun z => absurd z (by omega))
    · intro n k u hk hR hw
      obtain ⟨f1, f2, f3, f4, f5, f6, a1, a2, a3, a4, a5, a6, a7, a8, a9, a10, a11, a12, a13, a14, a15, a16, a17, a18, a19, a20, a21, a22⟩ := u
      refine pk_le l k (fun z => absurd z (by omega)) (fun _ => wr_fill (l := k) hm hR (by omega) rfl (fun u' hG hW => ?_))
      obtain ⟨g1, g2, g3, g4, g5, g6, b1, b2, b3, b4, b5, b6, b7, b8, b9, b10, b11, b12, b13, b14, b15, b16, b17, b18, b19, b20, b21, b22⟩ := u'
      have e : nI (wr_sm k) + b21 0 = nI (wr_sm (k + 1)) := by
        have e0 : b21 0 = nI (wr_wv m k 0) := hW 0 (by omega)
        rw [e0, wr_fW0 m hm k (by omega), nI_add]
        unfold wr_sm
        rw [if_neg (show ¬ k = 8 by omega)]
        by_cases h7 : k = 7
        · rw [if_pos h7, if_pos (by omega)]
        · rw [if_neg h7, if_neg (by omega)]
      exact nm_r e (nm_r (nI_1 k) (hw (g1, g2, g3, g4, g5, g6, b1, b2, b3, b4, b5, b6, b7, b8, b9, b10, b11, b12, b13, b14, b15, b16, b17, b18, b19, b20, b21, b22) (Or.inr hG)))
  obtain ⟨f1, f2, f3, f4, f5, f6, a1, a2, a3, a4, a5, a6, a7, a8, a9, a10, a11, a12, a13, a14, a15, a16, a17, a18, a19, a20, a21, a22⟩ := u
  exact key
theorem wr_total {post : Int32 → St2 → Prop} {u : St2} (hm : m < 128) (hR : wr_R m u) (H : ∀ u', wr_R m u' → post 1 u') : wpX_total post u := by
  obtain ⟨f1, f2, f3, f4, f5, f6, a1, a2, a3, a4, a5, a6, a7, a8, a9, a10, a11, a12, a13, a14, a15, a16, a17, a18, a19, a20, a21, a22⟩ := u
  have hf := wr_f1 hR
  unfold wpX_total
  refine wr_shorter (l := 8) hm hR (by omega) (by rw [hf]; rfl) (fun u' h => ?_)
  obtain ⟨g1, g2, g3, g4, g5, g6, b1, b2, b3, b4, b5, b6, b7, b8, b9, b10, b11, b12, b13, b14, b15, b16, b17, b18, b19, b20, b21, b22⟩ := u'
  exact H _ h
theorem wr_wlen {post : Int32 → St2 → Prop} {u : St2} (hm : m < 128) (hR : wr_R m u) (H : ∀ u', wr_R m u' → post 7 u') : wpX_wordLen post u 0 := by
  have key : ∃ n, wr_ap (wX_wordLen_10 post n 0 (nI 0)) u := by
    refine pk_loop (σ := St2) (fun n k u => wr_ap (wX_wordLen_10 post n 0 (nI k)) u) (fun _ u => wr_R m u) 7 0 u (by omega) hR ?_ ?_
    · intro n u hR
      obtain ⟨f1, f2, f3, f4, f5, f6, a1, a2, a3, a4, a5, a6, a7, a8, a9, a10, a11, a12, a13, a14, a15, a16, a17, a18, a19, a20, a21, a22⟩ := u
      have hf := wr_f1 hR
      subst hf
      refine pk_lt 7 7 (fun z => absurd z (by omega)) (fun _ => wr_fill (l := 7) hm hR (by omega) rfl (fun u' hG hW => ?_))
      obtain ⟨g1, g2, g3, g4, g5, g6, b1, b2, b3, b4, b5, b6, b7, b8, b9, b10, b11, b12, b13, b14, b15, b16, b17, b18, b19, b20, b21, b22⟩ := u'
      have e0 : b21 0 = nI 1 := by
        have e1 : b21 0 = nI (wr_wv m 7 0) := hW 0 (by omega)
        rw [e1, wr_fW0 m hm 7 (by omega), if_pos rfl]
      exact pk_le 1 0 (fun z => absurd z (by omega)) (fun _ => H _ (Or.inr hG)) e0
    · intro n k u hk hR hw
      obtain ⟨f1, f2, f3, f4, f5, f6, a1, a2, a3, a4, a5, a6, a7, a8, a9, a10, a11, a12, a13, a14, a15, a16, a17, a18, a19, a20, a21, a22⟩ := u
      have hf := wr_f1 hR
      subst hf
      refine pk_lt 7 k (fun z => absurd z (by omega)) (fun _ => wr_fill (l := k) hm hR (by omega) rfl (fun u' hG hW => ?_))
      obtain ⟨g1, g2, g3, g4, g5, g6, b1, b2, b3, b4, b5, b6, b7, b8, b9, b10, b11, b12, b13, b14, b15, b16, b17, b18, b19, b20, b21, b22⟩ := u'
      have e0 : b21 0 = nI 0 := by
        have e1 : b21 0 = nI (wr_wv m k 0) := hW 0 (by omega)
        rw [e1, wr_fW0 m hm k (by omega), if_neg (by omega)]
      exact pk_le 0 0 (fun _ => nm_r (e' := 0) (by rw [e0]; rfl) (nm_r (nI_1 k) (hw (g1, g2, g3, g4, g5, g6, b1, b2, b3, b4, b5, b6, b7, b8, b9, b10, b11, b12, b13, b14, b15, b16, b17, b18, b19, b20, b21, b22) (Or.inr hG)))) (fun z => absurd z (by omega)) e0
  obtain ⟨f1, f2, f3, f4, f5, f6, a1, a2, a3, a4, a5, a6, a7, a8, a9, a10, a11, a12, a13, a14, a15, a16, a17, a18, a19, a20, a21, a22⟩ := u
  exact pk_le 0 0 (fun _ => key) (fun z => absurd z (by omega))
theorem wr_lv0 (m : Nat) : wr_lv m 0 = 0 := by
  unfold wr_lv
  by_cases h : m / 2 ^ (7 - 0) = 0
  · rw [if_pos h]
  · rw [if_neg h]
theorem wr_w34 {post : Int32 → St2 → Prop} (hm : m < 128) (hG : wr_G m (7, f2, f3, f4, 1, f6, a1, a2, a3, a4, a5, a6, a7, a8, a9, a10, a11, a12, a13, a14, a15, a16, a17, a18, a19, a20, a21, a22)) (hW : ∀ i, i < 15 → a21 i = nI (wr_wv m 7 i)) (H : post (nI m) (7, f2, f3, f4, 1, f6, a1, a2, a3, a4, a5, a6, a7, a8, a9, a10, a11, a12, a13, a14, a15, a16, a17, a18, a19, a20, a21, a22)) : ∃ n, wX_wordBits_34 post 7 7 f2 f3 f4 1 f6 a1 a2 a3 a4 a5 a6 a7 a8 a9 a10 a11 a12 a13 a14 a15 a16 a17 a18 a19 a20 a21 a22 n 0 0 0 0 := by
  obtain ⟨_, _, h14, hK, hH⟩ := hG
  have hl := pk_loop (σ := Unit) (fun n j _ => wX_wordBits_34 post 7 7 f2 f3 f4 1 f6 a1 a2 a3 a4 a5 a6 a7 a8 a9 a10 a11 a12 a13 a14 a15 a16 a17 a18 a19 a20 a21 a22 n 0 (nI (wr_lv m j)) (nI (m / 2 ^ (7 - j))) (nI j)) (fun _ _ => True) 7 0 () (by omega) trivial ?_ ?_
  · obtain ⟨n, hn⟩ := hl
    have hn' : wX_wordBits_34 post 7 7 f2 f3 f4 1 f6 a1 a2 a3 a4 a5 a6 a7 a8 a9 a10 a11 a12 a13 a14 a15 a16 a17 a18 a19 a20 a21 a22 n 0 (nI (wr_lv m 0)) (nI (m / 2 ^ (7 - 0))) (nI 0) := hn
    rw [wr_lv0, show m / 2 ^ (7 - 0) = 0 by omega] at hn'
    exact ⟨n, hn'⟩
  · intro n _ _
    refine pk_le 7 7 (fun _ => ?_) (fun z => absurd z (by omega))
    rw [show m / 2 ^ (7 - 7) = m from Nat.div_one m]
    exact H
  · intro n j _ hj _ hw
    have t : wX_wordBits_34 post 7 7 f2 f3 f4 1 f6 a1 a2 a3 a4 a5 a6 a7 a8 a9 a10 a11 a12 a13 a14 a15 a16 a17 a18 a19 a20 a21 a22 n 0 (nI (wr_lv m (j + 1))) (nI (m / 2 ^ (7 - (j + 1)))) (nI (j + 1)) := hw () trivial
    obtain ⟨v1, v2, _⟩ := wr_fL m hm j hj
    obtain ⟨x1, x2, x3⟩ := wr_fV m hm (j + 1) (by omega)
    obtain ⟨y1, y2⟩ := x3 (by omega)
    have hk := wr_kb2 m j
    have hdm := wr_kbd (m := m) hj
    have hmb : m / 2 ^ (7 - j) ≤ m := Nat.div_le_self _ _
    obtain ⟨k1, k2⟩ := hK (wr_lv m j) (by omega)
    have e0 : a18 (nI (wr_lv m j)).toNatClampNeg = nI (wr_K m 0 (wr_lv m j)) := by rw [nI_clamp (by omega)]; exact k1
    have e1 : a19 (nI (wr_lv m j)).toNatClampNeg = nI (wr_K m 1 (wr_lv m j)) := by rw [nI_clamp (by omega)]; exact k2
    rw [v2 0 (by omega)] at e0
    rw [v2 1 (by omega)] at e1
    by_cases hb : wr_kb m j = 0
    · rw [if_pos hb] at e0
      have eW : a21 (a18 (nI (wr_lv m j)).toNatClampNeg).toNatClampNeg = nI 1 := by
        rw [wr_rd (f := a21) e0 (by omega), hW _ (by omega)]
        unfold wr_wv
        rw [x2]
        rfl
      refine pk_le 7 j (fun z => absurd z (by omega)) (fun _ => ⟨pk_in (wr_lv m j) 256 (by omega), pk_in (wr_lv m (j + 1)) 256 (by omega) e0, nm_r eW (pk_le 1 0 (fun z => absurd z (by omega)) (fun _ => nm_r (e' := nI (m / 2 ^ (7 - (j + 1)))) ?_ ⟨pk_in (wr_lv m j) 256 (by omega), nm_r e0 (nm_r (nI_1 j) t)⟩))⟩)
      rw [show (2 : Int32) = nI 2 from rfl, pk_mul]
      exact congrArg nI (by omega)
    · rw [if_neg hb] at e0
      rw [if_pos (by omega)] at e1
      have eW : a21 (a18 (nI (wr_lv m j)).toNatClampNeg).toNatClampNeg = nI 0 := by
        rw [wr_rd (f := a21) e0 (by omega), hW _ (by omega)]
        unfold wr_wv
        rw [y2]
        rfl
      refine pk_le 7 j (fun z => absurd z (by omega)) (fun _ => ⟨pk_in (wr_lv m j) 256 (by omega), pk_in (wr_dd m (j + 1)) 256 (by omega) e0, nm_r eW (pk_le 0 0 (fun _ => nm_r (e' := 0) (by rfl) (nm_r (e' := nI (m / 2 ^ (7 - (j + 1)))) ?_ ⟨pk_in (wr_lv m j) 256 (by omega), nm_r e1 (nm_r (nI_1 j) t)⟩)) (fun z => absurd z (by omega)))⟩)
      rw [show (2 : Int32) = nI 2 from rfl, pk_mul, nI_1]
      exact congrArg nI (by omega)
theorem wr_wbits {post : Int32 → St2 → Prop} {u : St2} (hm : m < 128) (hR : wr_R m u) (H : ∀ u', wr_R m u' → post (nI m) u') : wpX_wordBits post u 0 := by
  obtain ⟨f1, f2, f3, f4, f5, f6, a1, a2, a3, a4, a5, a6, a7, a8, a9, a10, a11, a12, a13, a14, a15, a16, a17, a18, a19, a20, a21, a22⟩ := u
  unfold wpX_wordBits
  refine wr_wlen hm hR (fun u' hR' => ?_)
  obtain ⟨g1, g2, g3, g4, g5, g6, b1, b2, b3, b4, b5, b6, b7, b8, b9, b10, b11, b12, b13, b14, b15, b16, b17, b18, b19, b20, b21, b22⟩ := u'
  refine pk_le 0 7 (fun _ => wr_shorter (l := 7) hm hR' (by omega) rfl (fun u2 hR2 => ?_)) (fun z => absurd z (by omega))
  obtain ⟨h1, h2, h3, h4, h5, h6, c1, c2, c3, c4, c5, c6, c7, c8, c9, c10, c11, c12, c13, c14, c15, c16, c17, c18, c19, c20, c21, c22⟩ := u2
  refine nm_r (e' := 0) (by rfl) (wr_fill (l := 7) hm hR2 (by omega) rfl (fun u3 hG hW => ?_))
  obtain ⟨f1, f2, f3, f4, f5, f6, a1, a2, a3, a4, a5, a6, a7, a8, a9, a10, a11, a12, a13, a14, a15, a16, a17, a18, a19, a20, a21, a22⟩ := u3
  have hG' := hG
  obtain ⟨rfl, rfl, _⟩ := hG'
  exact wr_w34 hm hG (fun i hi => hW i (by omega)) (H _ (Or.inr hG))
end wr4
end
section
/-! the questions: valid, walk, isChosen, rank, countFrom -/
section wr5
variable {f1 f2 f3 f4 f5 f6 : Int32} {a1 a2 a3 a4 a5 a6 a7 a8 a9 a10 a11 a12 a13 a14 a15 a16 a17 a18 a19 a20 a21 a22 : Nat → Int32} {m : Nat}
/-- an answer: -1 off the range, v q at q -/
def wr_sp (n : Nat) (x r : Int32) (v : Nat → Nat) : Prop := ((x < 0 ∨ nI n ≤ x) → r = -1) ∧ ∀ q, q < n → x = nI q → r = nI (v q)
theorem wr_off {n q : Nat} {x : Int32} (hn : n < 2 ^ 31) (hq : q < n) (hx : x = nI q) (h : x < 0 ∨ nI n ≤ x) : False := by
  subst hx
  rcases h with h | h
  · exact nI_pos (by omega) h
  · exact nI_ge hq hn h
theorem wr_spN {n : Nat} {x : Int32} {v : Nat → Nat} (hn : n < 2 ^ 31) (h : x < 0 ∨ nI n ≤ x) : wr_sp n x (-1) v := ⟨fun _ => rfl, fun q hq e => (wr_off hn hq e h).elim⟩
theorem wr_spP {n q : Nat} {x r : Int32} {v : Nat → Nat} (hn : n < 2 ^ 31) (hq : q < n) (hx : x = nI q) (hr : r = nI (v q)) : wr_sp n x r v := by
  refine ⟨fun h => (wr_off hn hq hx h).elim, fun q' hq' e => ?_⟩
  rw [hx] at e
  have : q = q' := (nI_eq (by omega) (by omega)).mp e
  rw [← this]
  exact hr
theorem wr_p2 : ∀ l, l < 8 → 2 ^ l ≤ 128 := by decide
theorem wr_valid {post : Int32 → Prop} {l : Nat} {x y : Int32} (hf : f1 = 7) (hl : l < 8) (hx : x = nI l) (H0 : (y < 0 ∨ nI (2 ^ l) ≤ y) → post 0) (H1 : ∀ j, j < 2 ^ l → y = nI j → post 1) : wpX_valid post (f1, f2, f3, f4, f5, f6, a1, a2, a3, a4, a5, a6, a7, a8, a9, a10, a11, a12, a13, a14, a15, a16, a17, a18, a19, a20, a21, a22) x y := by
  subst hf hx
  have hp := wr_p2 l hl
  have hs := wr_shl l (by omega)
  refine pk_lt l 0 (fun z => absurd z (by omega)) (fun _ => pk_lt 7 l (fun z => absurd z (by omega)) (fun _ => ?_))
  rcases pk_ix y (n := 2 ^ l) (by omega) with h | h | ⟨j, hj, rfl⟩
  · exact br_f (Int32.not_le.mpr h) (H0 (Or.inl h))
  · exact br_c (fun _ => br_t (by rw [hs]; exact h) (H0 (Or.inr h))) (fun _ => H0 (Or.inr h))
  · exact br_t (nI_pos' (by omega)) (br_f (by rw [hs]; exact nI_ge hj (by omega)) (H1 j hj rfl))
/-- the node where the walk stands with e letters to go -/
def wr_at (m l q e : Nat) : Nat := if q / 2 ^ e = m / 2 ^ (7 - l + e) then wr_lv m (l - e) else wr_dd m (l - e)
theorem wr_at0 (m l q : Nat) : wr_at m l q 0 = if q = m / 2 ^ (7 - l) then wr_lv m l else wr_dd m l := by
  unfold wr_at
  rw [Nat.pow_zero, Nat.div_one, Nat.add_zero, Nat.sub_zero]
theorem wr_atl {l q : Nat} (hm : m < 128) (hl : l < 8) (hq : q < 2 ^ l) : wr_at m l q l = 0 := by
  unfold wr_at
  rw [show 7 - l + l = 7 by omega, Nat.div_eq_of_lt hq, Nat.div_eq_of_lt (show m < 2 ^ 7 by omega), if_pos rfl, Nat.sub_self]
  exact wr_lv0 m
theorem wr_atK {l q e : Nat} (hm : m < 128) (hl : l < 8) (hq : q < 2 ^ l) (he : e < l) : wr_at m l q (e + 1) < 13 ∧ wr_K m (q / 2 ^ e % 2) (wr_at m l q (e + 1)) = wr_at m l q e := by
  have h1 := wr_qd q e
  have h2 := wr_kbd (m := m) (j := l - (e + 1)) (by omega)
  rw [show 7 - (l - (e + 1) + 1) = 7 - l + e by omega, show 7 - (l - (e + 1)) = 7 - l + (e + 1) by omega] at h2
  obtain ⟨v1, v2, v3⟩ := wr_fL m hm (l - (e + 1)) (by omega)
  have hk := wr_kb2 m (l - (e + 1))
  have hc : q / 2 ^ e % 2 < 2 := Nat.mod_lt _ (by omega)
  have ej : l - (e + 1) + 1 = l - e := by omega
  by_cases hA : q / 2 ^ (e + 1) = m / 2 ^ (7 - l + (e + 1))
  · have ea : wr_at m l q (e + 1) = wr_lv m (l - (e + 1)) := if_pos hA
    rw [ea]
    refine ⟨by omega, ?_⟩
    rw [v2 _ hc, ej]
    unfold wr_at
    by_cases hb : wr_kb m (l - (e + 1)) = q / 2 ^ e % 2
    · rw [if_pos hb, if_pos (by omega)]
    · rw [if_neg hb, if_neg (by omega)]
  · have ea : wr_at m l q (e + 1) = wr_dd m (l - (e + 1)) := if_neg hA
    have hj : 1 ≤ l - (e + 1) := by
      rcases Nat.lt_or_ge (e + 1) l with z | z
      · omega
      · exfalso
        have : e + 1 = l := by omega
        apply hA
        rw [this, show 7 - l + l = 7 by omega, Nat.div_eq_of_lt hq, Nat.div_eq_of_lt (show m < 2 ^ 7 by omega)]
    obtain ⟨v4, v5⟩ := v3 hj
    rw [ea]
    refine ⟨by omega, ?_⟩
    rw [v5 _ hc, ej]
    unfold wr_at
    rw [if_neg (by omega)]
theorem wr_w11 {post : Int32 → St2 → Prop} {l q : Nat} (hm : m < 128) (hl : l < 8) (hq : q < 2 ^ l) (hG : wr_G m (f1, f2, f3, f4, f5, f6, a1, a2, a3, a4, a5, a6, a7, a8, a9, a10, a11, a12, a13, a14, a15, a16, a17, a18, a19, a20, a21, a22)) (H : post (nI (wr_at m l q 0)) (f1, f2, f3, f4, f5, f6, a1, a2, a3, a4, a5, a6, a7, a8, a9, a10, a11, a12, a13, a14, a15, a16, a17, a18, a19, a20, a21, a22)) : ∃ n, wX_walk_11 post (nI q) f1 f2 f3 f4 f5 f6 a1 a2 a3 a4 a5 a6 a7 a8 a9 a10 a11 a12 a13 a14 a15 a16 a17 a18 a19 a20 a21 a22 n 0 (nI l - 1) := by
  obtain ⟨_, _, h14, hK, hH⟩ := hG
  have hq2 := wr_p2 l hl
  have hl' := pk_loopD (σ := Unit) (fun n e _ => wX_walk_11 post (nI q) f1 f2 f3 f4 f5 f6 a1 a2 a3 a4 a5 a6 a7 a8 a9 a10 a11 a12 a13 a14 a15 a16 a17 a18 a19 a20 a21 a22 n (nI (wr_at m l q e)) (nI e - 1)) (fun e _ => e ≤ l) ?_ ?_ l () (Nat.le_refl l)
  · have hn' : wX_walk_11 post (nI q) f1 f2 f3 f4 f5 f6 a1 a2 a3 a4 a5 a6 a7 a8 a9 a10 a11 a12 a13 a14 a15 a16 a17 a18 a19 a20 a21 a22 (l + 1) (nI (wr_at m l q l)) (nI l - 1) := hl'
    rw [wr_atl hm hl hq] at hn'
    exact ⟨_, hn'⟩
  · intro n _ _
    exact br_t (by decide) H
  · intro n e _ he hw
    have he' : e + 1 ≤ l := he
    have t : wX_walk_11 post (nI q) f1 f2 f3 f4 f5 f6 a1 a2 a3 a4 a5 a6 a7 a8 a9 a10 a11 a12 a13 a14 a15 a16 a17 a18 a19 a20 a21 a22 n (nI (wr_at m l q e)) (nI e - 1) := hw () (by omega)
    show wX_walk_11 post (nI q) f1 f2 f3 f4 f5 f6 a1 a2 a3 a4 a5 a6 a7 a8 a9 a10 a11 a12 a13 a14 a15 a16 a17 a18 a19 a20 a21 a22 (n + 1) (nI (wr_at m l q (e + 1))) (nI (e + 1) - 1)
    rw [nI_pred e]
    obtain ⟨k1, k2⟩ := wr_atK hm hl hq (e := e) (by omega)
    obtain ⟨k3, k4⟩ := hK _ k1
    refine pk_lt e 0 (fun z => absurd z (by omega)) (fun _ => pk_eq (q / 2 ^ e % 2) 1 (fun z => ⟨pk_in (wr_at m l q (e + 1)) 256 (by omega), nm_r (e' := nI (wr_at m l q e)) ?_ (nm_r (wr_m1 _) t)⟩) (fun z => ⟨pk_in (wr_at m l q (e + 1)) 256 (by omega), nm_r (e' := nI (wr_at m l q e)) ?_ (nm_r (wr_m1 _) t)⟩) (wr_bit (by omega) (by omega)) rfl (by omega) (by omega))
    · rw [nI_clamp (by omega), k4, ← k2, z]
    · rw [nI_clamp (by omega), k3, ← k2, show q / 2 ^ e % 2 = 0 by omega]
theorem wr_walk {post : Int32 → St2 → Prop} {u : St2} {l q : Nat} {x y : Int32} (hm : m < 128) (hR : wr_R m u) (hl : l < 8) (hq : q < 2 ^ l) (hx : x = nI l) (hy : y = nI q) (H : ∀ u', wr_G m u' → post (nI (if q = m / 2 ^ (7 - l) then wr_lv m l else wr_dd m l)) u') : wpX_walk post u x y := by
  subst hx hy
  obtain ⟨f1, f2, f3, f4, f5, f6, a1, a2, a3, a4, a5, a6, a7, a8, a9, a10, a11, a12, a13, a14, a15, a16, a17, a18, a19, a20, a21, a22⟩ := u
  unfold wpX_walk
  refine wr_build hm hR (fun u' hG => ?_)
  obtain ⟨g1, g2, g3, g4, g5, g6, b1, b2, b3, b4, b5, b6, b7, b8, b9, b10, b11, b12, b13, b14, b15, b16, b17, b18, b19, b20, b21, b22⟩ := u'
  refine nm_e (wr_w11 hm hl hq hG ?_)
  rw [wr_at0]
  exact H _ hG
theorem wr_isC {post : Int32 → St2 → Prop} {u : St2} {y : Int32} (hm : m < 128) (hR : wr_R m u) (H : ∀ r u', wr_sp 128 y r (fun q => if q = m then 1 else 0) → wr_R m u' → post r u') : wpX_isChosen post u 7 y := by
  obtain ⟨f1, f2, f3, f4, f5, f6, a1, a2, a3, a4, a5, a6, a7, a8, a9, a10, a11, a12, a13, a14, a15, a16, a17, a18, a19, a20, a21, a22⟩ := u
  unfold wpX_isChosen
  refine wr_valid (l := 7) (wr_f1 hR) (by omega) rfl (fun h => br_t rfl (H _ _ (wr_spN (by omega) h) hR)) (fun q hq e => br_f (by decide) ?_)
  refine wr_walk (l := 7) (q := q) hm hR (by omega) hq rfl e (fun u' hG => ?_)
  obtain ⟨g1, g2, g3, g4, g5, g6, b1, b2, b3, b4, b5, b6, b7, b8, b9, b10, b11, b12, b13, b14, b15, b16, b17, b18, b19, b20, b21, b22⟩ := u'
  have hG' := hG
  obtain ⟨_, _, h14, hK, hH⟩ := hG'
  obtain ⟨x1, x2, x3⟩ := wr_fV m hm 7 (by omega)
  obtain ⟨y1, y2⟩ := x3 (by omega)
  obtain ⟨z1, z2⟩ := wr_fH7 m hm
  rw [show m / 2 ^ (7 - 7) = m from Nat.div_one m]
  have hq' : q < 128 := hq
  by_cases hqm : q = m
  · rw [if_pos hqm]
    refine ⟨pk_in (wr_lv m 7) 256 (by omega), pk_eq 1 0 (fun z => absurd z (by omega)) (fun _ => H _ _ (wr_spP (by omega) hq' e ?_) (Or.inr hG)) (by rw [nI_clamp (by omega), hH _ (by omega), z1])⟩
    rw [if_pos hqm]; rfl
  · rw [if_neg hqm]
    refine ⟨pk_in (wr_dd m 7) 256 (by omega), pk_eq 0 0 (fun _ => H _ _ (wr_spP (by omega) hq' e ?_) (Or.inr hG)) (fun z => absurd rfl z) (by rw [nI_clamp (by omega), hH _ (by omega), z2])⟩
    rw [if_neg hqm]; rfl
def wr_rk (m q e : Nat) : Nat := if m / 2 ^ e < q / 2 ^ e then 1 else 0
theorem wr_rkS {q e : Nat} (hm : m < 128) (hq : q < 2 ^ 7) (he : e < 7) : wr_K m 0 (wr_at m 7 q (e + 1)) < 15 ∧ (q / 2 ^ e % 2 = 1 → wr_rk m q (e + 1) + wr_wv m 7 (wr_K m 0 (wr_at m 7 q (e + 1))) = wr_rk m q e) ∧ (q / 2 ^ e % 2 ≠ 1 → wr_rk m q (e + 1) = wr_rk m q e) := by
  have h1 := wr_qd q e
  have h2 := wr_kbd (m := m) (j := 7 - (e + 1)) (by omega)
  rw [show 7 - (7 - (e + 1) + 1) = e by omega, show 7 - (7 - (e + 1)) = e + 1 by omega] at h2
  obtain ⟨v1, v2, v3⟩ := wr_fL m hm (7 - (e + 1)) (by omega)
  obtain ⟨x1, x2, x3⟩ := wr_fV m hm (7 - (e + 1) + 1) (by omega)
  obtain ⟨y1, y2⟩ := x3 (by omega)
  have hk := wr_kb2 m (7 - (e + 1))
  have hL : wr_wv m 7 (wr_lv m (7 - (e + 1) + 1)) = 1 := by unfold wr_wv; rw [x2]; rfl
  have hD : wr_wv m 7 (wr_dd m (7 - (e + 1) + 1)) = 0 := by unfold wr_wv; rw [y2]; rfl
  by_cases hA : q / 2 ^ (e + 1) = m / 2 ^ (e + 1)
  · have ea : wr_at m 7 q (e + 1) = wr_lv m (7 - (e + 1)) := if_pos (by rw [hA]; exact congrArg (fun t => m / 2 ^ t) (by omega))
    rw [ea, v2 0 (by omega)]
    unfold wr_rk
    rw [if_neg (show ¬ m / 2 ^ (e + 1) < q / 2 ^ (e + 1) by omega)]
    by_cases hb : wr_kb m (7 - (e + 1)) = 0
    · rw [if_pos hb, hL]
      refine ⟨by omega, fun z => ?_, fun z => ?_⟩
      · rw [if_pos (by omega)]
      · rw [if_neg (by omega)]
    · rw [if_neg hb, hD]
      refine ⟨by omega, fun z => ?_, fun z => ?_⟩
      · rw [if_neg (by omega)]
      · rw [if_neg (by omega)]
  · have ea : wr_at m 7 q (e + 1) = wr_dd m (7 - (e + 1)) := if_neg (by rw [show 7 - 7 + (e + 1) = e + 1 by omega]; exact hA)
    have hj : 1 ≤ 7 - (e + 1) := by
      rcases Nat.lt_or_ge (e + 1) 7 with z | z
      · omega
      · exfalso
        have : e + 1 = 7 := by omega
        apply hA
        rw [this, Nat.div_eq_of_lt hq, Nat.div_eq_of_lt (show m < 2 ^ 7 by omega)]
    obtain ⟨v4, v5⟩ := v3 hj
    rw [ea, v5 0 (by omega), hD]
    have hr : wr_rk m q (e + 1) = wr_rk m q e := by
      unfold wr_rk
      by_cases hB : m / 2 ^ (e + 1) < q / 2 ^ (e + 1)
      · rw [if_pos hB, if_pos (by omega)]
      · rw [if_neg hB, if_neg (by omega)]
    exact ⟨by omega, fun _ => hr, fun _ => hr⟩
theorem wr_r30 {post : Int32 → St2 → Prop} {q : Nat} (hm : m < 128) (hq : q < 2 ^ 7) (hG : wr_G m (f1, f2, f3, f4, f5, f6, a1, a2, a3, a4, a5, a6, a7, a8, a9, a10, a11, a12, a13, a14, a15, a16, a17, a18, a19, a20, a21, a22)) (hW : ∀ i, i < 15 → a21 i = nI (wr_wv m 7 i)) (H : post (nI (wr_rk m q 0)) (f1, f2, f3, f4, f5, f6, a1, a2, a3, a4, a5, a6, a7, a8, a9, a10, a11, a12, a13, a14, a15, a16, a17, a18, a19, a20, a21, a22)) : ∃ n, wX_rank_30 post (nI q) f1 f2 f3 f4 f5 f6 a1 a2 a3 a4 a5 a6 a7 a8 a9 a10 a11 a12 a13 a14 a15 a16 a17 a18 a19 a20 a21 a22 n 0 0 (nI 7 - 1) := by
  obtain ⟨_, _, h14, hK, hH⟩ := hG
  have hl' := pk_loopD (σ := Unit) (fun n e _ => wX_rank_30 post (nI q) f1 f2 f3 f4 f5 f6 a1 a2 a3 a4 a5 a6 a7 a8 a9 a10 a11 a12 a13 a14 a15 a16 a17 a18 a19 a20 a21 a22 n (nI (wr_rk m q e)) (nI (wr_at m 7 q e)) (nI e - 1)) (fun e _ => e ≤ 7) ?_ ?_ 7 () (Nat.le_refl 7)
  · have hn' : wX_rank_30 post (nI q) f1 f2 f3 f4 f5 f6 a1 a2 a3 a4 a5 a6 a7 a8 a9 a10 a11 a12 a13 a14 a15 a16 a17 a18 a19 a20 a21 a22 (7 + 1) (nI (wr_rk m q 7)) (nI (wr_at m 7 q 7)) (nI 7 - 1) := hl'
    have e7 : wr_rk m q 7 = 0 := by
      unfold wr_rk
      rw [if_neg (by omega)]
    rw [wr_atl hm (by omega) hq, e7] at hn'
    exact ⟨_, hn'⟩
  · intro n _ _
    exact br_t (by decide) H
  · intro n e _ he hw
    have he' : e + 1 ≤ 7 := he
    have t : wX_rank_30 post (nI q) f1 f2 f3 f4 f5 f6 a1 a2 a3 a4 a5 a6 a7 a8 a9 a10 a11 a12 a13 a14 a15 a16 a17 a18 a19 a20 a21 a22 n (nI (wr_rk m q e)) (nI (wr_at m 7 q e)) (nI e - 1) := hw () (by omega)
    show wX_rank_30 post (nI q) f1 f2 f3 f4 f5 f6 a1 a2 a3 a4 a5 a6 a7 a8 a9 a10 a11 a12 a13 a14 a15 a16 a17 a18 a19 a20 a21 a22 (n + 1) (nI (wr_rk m q (e + 1))) (nI (wr_at m 7 q (e + 1))) (nI (e + 1) - 1)
    rw [nI_pred e]
    obtain ⟨k1, k2⟩ := wr_atK hm (l := 7) (by omega) hq (e := e) (by omega)
    obtain ⟨k3, k4⟩ := hK _ k1
    obtain ⟨r1, r2, r3⟩ := wr_rkS hm hq (e := e) (by omega)
    have e18 : a18 (nI (wr_at m 7 q (e + 1))).toNatClampNeg = nI (wr_K m 0 (wr_at m 7 q (e + 1))) := by rw [nI_clamp (by omega)]; exact k3
    refine pk_lt e 0 (fun z => absurd z (by omega)) (fun _ => pk_eq (q / 2 ^ e % 2) 1 (fun z => ⟨pk_in (wr_at m 7 q (e + 1)) 256 (by omega), pk_in (wr_K m 0 (wr_at m 7 q (e + 1))) 256 (by omega) e18, nm_r (e' := nI (wr_rk m q e)) ?_ ⟨pk_in (wr_at m 7 q (e + 1)) 256 (by omega), nm_r (e' := nI (wr_at m 7 q e)) ?_ (nm_r (wr_m1 _) t)⟩⟩) (fun z => ⟨pk_in (wr_at m 7 q (e + 1)) 256 (by omega), nm_r (e' := nI (wr_at m 7 q e)) ?_ (nm_r (wr_m1 _) ?_)⟩) (wr_bit (by omega) (by omega)) rfl (by omega) (by omega))
    · rw [wr_rd (f := a21) e18 (by omega), hW _ r1, nI_add, r2 z]
    · rw [nI_clamp (by omega), k4, ← k2, z]
    · rw [nI_clamp (by omega), k3, ← k2, show q / 2 ^ e % 2 = 0 by omega]
    · rw [r3 z]; exact t
theorem wr_rank {post : Int32 → St2 → Prop} {u : St2} {y : Int32} (hm : m < 128) (hR : wr_R m u) (H : ∀ r u', wr_sp 128 y r (fun q => if m < q then 1 else 0) → wr_R m u' → post r u') : wpX_rank post u 7 y := by
  obtain ⟨f1, f2, f3, f4, f5, f6, a1, a2, a3, a4, a5, a6, a7, a8, a9, a10, a11, a12, a13, a14, a15, a16, a17, a18, a19, a20, a21, a22⟩ := u
  unfold wpX_rank
  refine wr_valid (l := 7) (wr_f1 hR) (by omega) rfl (fun h => br_t rfl (H _ _ (wr_spN (by omega) h) hR)) (fun q hq e => br_f (by decide) ?_)
  refine wr_shorter (l := 7) hm hR (by omega) rfl (fun u1 hR1 => ?_)
  obtain ⟨g1, g2, g3, g4, g5, g6, b1, b2, b3, b4, b5, b6, b7, b8, b9, b10, b11, b12, b13, b14, b15, b16, b17, b18, b19, b20, b21, b22⟩ := u1
  refine wr_fill (l := 7) hm hR1 (by omega) rfl (fun u2 hG hW => ?_)
  obtain ⟨h1, h2, h3, h4, h5, h6, c1, c2, c3, c4, c5, c6, c7, c8, c9, c10, c11, c12, c13, c14, c15, c16, c17, c18, c19, c20, c21, c22⟩ := u2
  subst e
  refine nm_e (wr_r30 hm hq hG (fun i hi => hW i (by omega)) (H _ _ (wr_spP (q := q) (by omega) hq rfl ?_) (Or.inr hG)))
  unfold wr_rk
  rw [Nat.pow_zero, Nat.div_one, Nat.div_one]
def wr_cs (m t k : Nat) : Nat := if k = 8 then wr_wv m 7 t else 0
theorem wr_countF {post : Int32 → St2 → Prop} {u : St2} {y : Int32} (hm : m < 128) (hR : wr_R m u) (H : ∀ r u', wr_sp 8 y r (fun q => if q = m / 16 then 1 else 0) → wr_R m u' → post r u') : wpX_countFrom post u 3 y := by
  obtain ⟨f1, f2, f3, f4, f5, f6, a1, a2, a3, a4, a5, a6, a7, a8, a9, a10, a11, a12, a13, a14, a15, a16, a17, a18, a19, a20, a21, a22⟩ := u
  unfold wpX_countFrom
  refine wr_valid (l := 3) (wr_f1 hR) (by omega) rfl (fun h => br_t rfl (H _ _ (wr_spN (by omega) h) hR)) (fun q hq e => br_f (by decide) ?_)
  have hq' : q < 8 := hq
  refine wr_walk (l := 3) (q := q) hm hR (by omega) hq rfl e (fun u' hG => ?_)
  obtain ⟨g1, g2, g3, g4, g5, g6, b1, b2, b3, b4, b5, b6, b7, b8, b9, b10, b11, b12, b13, b14, b15, b16, b17, b18, b19, b20, b21, b22⟩ := u'
  obtain ⟨x1, x2, x3⟩ := wr_fV m hm 3 (by omega)
  obtain ⟨y1, y2⟩ := x3 (by omega)
  have key : ∀ t, t < 7 → wr_wv m 7 t = (if q = m / 16 then 1 else 0) → ∃ n, wX_countFrom_24 post (nI t) n 0 3 g1 g2 g3 g4 g5 g6 b1 b2 b3 b4 b5 b6 b7 b8 b9 b10 b11 b12 b13 b14 b15 b16 b17 b18 b19 b20 b21 b22 := by
    intro t ht hv
    have hl : ∃ n, wr_ap (wX_countFrom_24 post (nI t) n (nI (wr_cs m t 3)) (nI 3)) (g1, g2, g3, g4, g5, g6, b1, b2, b3, b4, b5, b6, b7, b8, b9, b10, b11, b12, b13, b14, b15, b16, b17, b18, b19, b20, b21, b22) := by
      refine pk_loop (σ := St2) (fun n k u => wr_ap (wX_countFrom_24 post (nI t) n (nI (wr_cs m t k)) (nI k)) u) (fun k u => 3 ≤ k ∧ wr_R m u) 8 3 (g1, g2, g3, g4, g5, g6, b1, b2, b3, b4, b5, b6, b7, b8, b9, b10, b11, b12, b13, b14, b15, b16, b17, b18, b19, b20, b21, b22) (by omega) ⟨by omega, Or.inr hG⟩ ?_ ?_
      · rintro n u ⟨_, hR⟩
        obtain ⟨h1, h2, h3, h4, h5, h6, c1, c2, c3, c4, c5, c6, c7, c8, c9, c10, c11, c12, c13, c14, c15, c16, c17, c18, c19, c20, c21, c22⟩ := u
        have hf := wr_f1 hR
        subst hf
        refine pk_lt 7 8 (fun _ => H _ _ (wr_spP (by omega) hq' e ?_) hR) (fun z => absurd z (by omega))
        unfold wr_cs
        rw [if_pos rfl, hv]
      · rintro n k u hk ⟨hk3, hR⟩ hw
        obtain ⟨h1, h2, h3, h4, h5, h6, c1, c2, c3, c4, c5, c6, c7, c8, c9, c10, c11, c12, c13, c14, c15, c16, c17, c18, c19, c20, c21, c22⟩ := u
        have hf := wr_f1 hR
        subst hf
        refine pk_lt 7 k (fun z => absurd z (by omega)) (fun _ => wr_fill (l := k) hm hR (by omega) rfl (fun u2 hG2 hW => ?_))
        obtain ⟨f1, f2, f3, f4, f5, f6, a1, a2, a3, a4, a5, a6, a7, a8, a9, a10, a11, a12, a13, a14, a15, a16, a17, a18, a19, a20, a21, a22⟩ := u2
        have et : a21 (nI t).toNatClampNeg = nI (wr_wv m k t) := by
          rw [nI_clamp (by omega)]
          exact hW t (by omega)
        have es : nI (wr_cs m t k) + a21 (nI t).toNatClampNeg = nI (wr_cs m t (k + 1)) := by
          rw [et, nI_add]
          unfold wr_cs
          rw [if_neg (by omega)]
          by_cases h7 : k = 7
          · rw [h7, if_pos rfl, Nat.zero_add]
          · rw [if_neg (by omega)]
            unfold wr_wv
            rw [decide_eq_false h7]
            rfl
        exact ⟨pk_in t 256 (by omega), nm_r es (nm_r (nI_1 k) (hw (f1, f2, f3, f4, f5, f6, a1, a2, a3, a4, a5, a6, a7, a8, a9, a10, a11, a12, a13, a14, a15, a16, a17, a18, a19, a20, a21, a22) ⟨by omega, Or.inr hG2⟩))⟩
    exact hl
  rw [show m / 2 ^ (7 - 3) = m / 16 from rfl]
  by_cases hqm : q = m / 16
  · rw [if_pos hqm]
    refine key (wr_lv m 3) (by omega) ?_
    rw [if_pos hqm]
    unfold wr_wv
    rw [x2]; rfl
  · rw [if_neg hqm]
    refine key (wr_dd m 3) (by omega) ?_
    rw [if_neg hqm]
    unfold wr_wv
    rw [y2]; rfl
end wr5
end
section
/-! the groups: alike, partLayer, groups -/
section wr6
variable {f1 f2 f3 f4 f5 f6 : Int32} {a1 a2 a3 a4 a5 a6 a7 a8 a9 a10 a11 a12 a13 a14 a15 a16 a17 a18 a19 a20 a21 a22 : Nat → Int32} {m : Nat}
theorem wr_plt {k : Nat} (h : k < 2 ^ 30) : nI k - 1 < nI k := by
  rcases k with _ | k
  · decide
  · rw [nI_pred]; exact nI_lt (by omega) (by omega)
theorem wr_alike {post : Int32 → Prop} {d b : Nat} (hm : m < 128) (hd : d < 8) (hd1 : 1 ≤ d) (hb : b = if d = 7 then 1 else 0) (hG : wr_G m (f1, f2, f3, f4, f5, f6, a1, a2, a3, a4, a5, a6, a7, a8, a9, a10, a11, a12, a13, a14, a15, a16, a17, a18, a19, a20, a21, a22)) (h22 : ∀ j, 2 * d + 1 ≤ j → j < 15 → a22 j = nI j) (H : post 0) : wpX_alike post (f1, f2, f3, f4, f5, f6, a1, a2, a3, a4, a5, a6, a7, a8, a9, a10, a11, a12, a13, a14, a15, a16, a17, a18, a19, a20, a21, a22) (nI (2 * d)) (nI (2 * d - 1)) (nI b) := by
  obtain ⟨_, _, h14, hK, hH⟩ := hG
  have hg := wr_fG m hm d hd hd1
  have eA : a20 (nI (2 * d)).toNatClampNeg = nI (wr_H m (2 * d)) := by rw [nI_clamp (by omega)]; exact hH _ (by omega)
  have eB : a20 (nI (2 * d - 1)).toNatClampNeg = nI (wr_H m (2 * d - 1)) := by rw [nI_clamp (by omega)]; exact hH _ (by omega)
  have bA := (wr_fS4096 m hm (2 * d) (by omega)).2.2.2
  have bB := (wr_fS4096 m hm (2 * d - 1) (by omega)).2.2.2
  refine ⟨pk_in (2 * d) 256 (by omega), pk_in (2 * d - 1) 256 (by omega), pk_eq (wr_H m (2 * d)) (wr_H m (2 * d - 1)) (fun z => ?_) (fun _ => H) eA eB⟩
  by_cases h7 : d = 7
  · rw [if_pos h7] at hg
    exact absurd z hg
  · rw [if_neg h7] at hg
    rw [if_neg h7] at hb
    subst hb
    obtain ⟨p1, p2⟩ := hK (2 * d) (by omega)
    obtain ⟨q1, q2⟩ := hK (2 * d - 1) (by omega)
    have hdA : wr_dp (2 * d) = d := by unfold wr_dp; omega
    have hdB : wr_dp (2 * d - 1) = d := by unfold wr_dp; omega
    obtain ⟨s1, s2, _⟩ := (wr_fK m hm (2 * d) (by omega)).1 0 (by omega)
    obtain ⟨s3, s4, _⟩ := (wr_fK m hm (2 * d) (by omega)).1 1 (by omega)
    obtain ⟨t1, t2, _⟩ := (wr_fK m hm (2 * d - 1) (by omega)).1 0 (by omega)
    obtain ⟨t3, t4, _⟩ := (wr_fK m hm (2 * d - 1) (by omega)).1 1 (by omega)
    rw [hdA] at s1 s2 s3 s4
    rw [hdB] at t1 t2 t3 t4
    have eP0 : a18 (nI (2 * d)).toNatClampNeg = nI (wr_K m 0 (2 * d)) := by rw [nI_clamp (by omega)]; exact p1
    have eP1 : a19 (nI (2 * d)).toNatClampNeg = nI (wr_K m 1 (2 * d)) := by rw [nI_clamp (by omega)]; exact p2
    have eQ0 : a18 (nI (2 * d - 1)).toNatClampNeg = nI (wr_K m 0 (2 * d - 1)) := by rw [nI_clamp (by omega)]; exact q1
    have eQ1 : a19 (nI (2 * d - 1)).toNatClampNeg = nI (wr_K m 1 (2 * d - 1)) := by rw [nI_clamp (by omega)]; exact q2
    refine br_t rfl ⟨pk_in (2 * d) 256 (by omega), pk_in (wr_K m 0 (2 * d)) 256 (by omega) eP0, pk_in (2 * d - 1) 256 (by omega), pk_in (wr_K m 0 (2 * d - 1)) 256 (by omega) eQ0, pk_eq (wr_K m 0 (2 * d)) (wr_K m 0 (2 * d - 1)) (fun z0 => ⟨pk_in (2 * d) 256 (by omega), pk_in (wr_K m 1 (2 * d)) 256 (by omega) eP1, pk_in (2 * d - 1) 256 (by omega), pk_in (wr_K m 1 (2 * d - 1)) 256 (by omega) eQ1, pk_eq (wr_K m 1 (2 * d)) (wr_K m 1 (2 * d - 1)) (fun z1 => ?_) (fun _ => H) (by rw [wr_rd (f := a22) eP1 (by omega)]; exact h22 _ (by omega) (by omega)) (by rw [wr_rd (f := a22) eQ1 (by omega)]; exact h22 _ (by omega) (by omega))⟩) (fun _ => H) (by rw [wr_rd (f := a22) eP0 (by omega)]; exact h22 _ (by omega) (by omega)) (by rw [wr_rd (f := a22) eQ0 (by omega)]; exact h22 _ (by omega) (by omega))⟩
    rcases hg with hg | hg
    · exact absurd z0 hg
    · exact absurd z1 hg
theorem wr_p52 {post : St2 → Prop} {J : Int32 → (Nat → Int32) → (Nat → Int32) → (Nat → Int32) → (Nat → Int32) → (Nat → Int32) → (Nat → Int32) → (Nat → Int32) → (Nat → Int32) → (Nat → Int32) → (Nat → Int32) → (Nat → Int32) → (Nat → Int32) → (Nat → Int32) → (Nat → Int32) → (Nat → Int32) → (Nat → Int32) → (Nat → Int32) → (Nat → Int32) → (Nat → Int32) → (Nat → Int32) → (Nat → Int32) → (Nat → Int32) → Prop} {d b i : Nat} (hm : m < 128) (hd : d < 8) (hb : b = if d = 7 then 1 else 0) (hi : 2 * d - 1 ≤ i) (hi2 : i < 2 * d + 1) (hG : wr_G m (f1, f2, f3, f4, f5, f6, a1, a2, a3, a4, a5, a6, a7, a8, a9, a10, a11, a12, a13, a14, a15, a16, a17, a18, a19, a20, a21, a22)) (h22 : ∀ j, 2 * d + 1 ≤ j → j < 15 → a22 j = nI j) (H : J (nI (i + 1)) a1 a2 a3 a4 a5 a6 a7 a8 a9 a10 a11 a12 a13 a14 a15 a16 a17 a18 a19 a20 a21 a22) : ∃ n, wX_partLayer_52 post J (nI d) (nI (2 * d - 1)) (nI b) (nI i) f1 f2 f3 f4 f5 f6 n (nI i - 1) a1 a2 a3 a4 a5 a6 a7 a8 a9 a10 a11 a12 a13 a14 a15 a16 a17 a18 a19 a20 a21 a22 := by
  have ex : ∀ n, wX_partLayer_52 post J (nI d) (nI (2 * d - 1)) (nI b) (nI i) f1 f2 f3 f4 f5 f6 (n + 1) (nI (2 * d - 1) - 1) a1 a2 a3 a4 a5 a6 a7 a8 a9 a10 a11 a12 a13 a14 a15 a16 a17 a18 a19 a20 a21 a22 := by
    intro n
    exact br_t (wr_plt (by omega)) (nm_r (nI_1 i) H)
  by_cases h : i = 2 * d - 1
  · subst h
    exact ⟨1, ex 0⟩
  · have h2 : i = 2 * d := by omega
    subst h2
    refine ⟨2, ?_⟩
    rw [show nI (2 * d) - 1 = nI (2 * d - 1) by rw [show 2 * d = (2 * d - 1) + 1 by omega]; exact nI_pred _]
    refine pk_lt (2 * d - 1) (2 * d - 1) (fun z => absurd z (by omega)) (fun _ => wr_alike hm hd (by omega) hb hG h22 (br_t rfl (nm_r (wr_m1 _) (ex 0))))
theorem wr_p24 {post : St2 → Prop} {d b : Nat} (hm : m < 128) (hd : d < 8) (hb : b = if d = 7 then 1 else 0) (hG : wr_G m (f1, f2, f3, f4, f5, f6, a1, a2, a3, a4, a5, a6, a7, a8, a9, a10, a11, a12, a13, a14, a15, a16, a17, a18, a19, a20, a21, a22)) (h22 : ∀ j, 2 * d + 1 ≤ j → j < 15 → a22 j = nI j) (H : ∀ s : Nat → Int32, (∀ j, 2 * d - 1 ≤ j → j < 15 → s j = nI j) → post (f1, f2, f3, f4, f5, f6, a1, a2, a3, a4, a5, a6, a7, a8, a9, a10, a11, a12, a13, a14, a15, a16, a17, a18, a19, a20, a21, s)) : ∃ n, wX_partLayer_24 post (nI d) (nI (2 * d - 1)) (nI b) f1 f2 f3 f4 f5 f6 n (nI (2 * d - 1)) a1 a2 a3 a4 a5 a6 a7 a8 a9 a10 a11 a12 a13 a14 a15 a16 a17 a18 a19 a20 a21 a22 := by
  have hG' := hG
  obtain ⟨_, _, h14, hK, hH⟩ := hG'
  have eL : a14 (nI d + 1).toNatClampNeg = nI (2 * d + 1) := by
    rw [nI_1, nI_clamp (by omega), h14 (d + 1) (by omega)]
    exact congrArg nI (by omega)
  refine pk_loop (fun n i s => wX_partLayer_24 post (nI d) (nI (2 * d - 1)) (nI b) f1 f2 f3 f4 f5 f6 n (nI i) a1 a2 a3 a4 a5 a6 a7 a8 a9 a10 a11 a12 a13 a14 a15 a16 a17 a18 a19 a20 a21 s) (fun i s => 2 * d - 1 ≤ i ∧ (∀ j, 2 * d - 1 ≤ j → j < i → s j = nI j) ∧ ∀ j, 2 * d + 1 ≤ j → j < 15 → s j = nI j) (2 * d + 1) (2 * d - 1) a22 (by omega) ⟨Nat.le_refl _, fun j h1 h2 => absurd h2 (by omega), h22⟩ ?_ ?_
  · rintro n s ⟨_, h1, h2⟩
    refine ⟨pk_in (d + 1) 10 (by omega) (nI_1 d), pk_le (2 * d + 1) (2 * d + 1) (fun _ => H s (fun j g1 g2 => ?_)) (fun z => absurd z (by omega)) eL⟩
    rcases Nat.lt_or_ge j (2 * d + 1) with z | z
    · exact h1 j g1 z
    · exact h2 j z g2
  · rintro n i s hi ⟨hi', h1, h2⟩ hw
    refine ⟨pk_in (d + 1) 10 (by omega) (nI_1 d), pk_le (2 * d + 1) i (fun z => absurd z (by omega)) (fun _ => ⟨pk_in i 256 (by omega), nm_r (wr_uk rfl (by omega)) (nm_e (wr_p52 hm hd hb hi' hi (wr_G22 hG _) (fun j g1 g2 => ?_) (hw (upd s i (nI i)) ⟨by omega, fun j g1 g2 => ?_, fun j g1 g2 => ?_⟩)))⟩) eL⟩
    · rw [pk_un (by omega)]; exact h2 j g1 g2
    · by_cases e : j = i
      · rw [e, pk_us]
      · rw [pk_un e]; exact h1 j g1 (by omega)
    · rw [pk_un (by omega)]; exact h2 j g1 g2
theorem wr_part {post : St2 → Prop} {d : Nat} {x : Int32} (hm : m < 128) (hd : d < 8) (hx : x = nI d) (hG : wr_G m (f1, f2, f3, f4, f5, f6, a1, a2, a3, a4, a5, a6, a7, a8, a9, a10, a11, a12, a13, a14, a15, a16, a17, a18, a19, a20, a21, a22)) (h22 : ∀ j, 2 * d + 1 ≤ j → j < 15 → a22 j = nI j) (H : ∀ s : Nat → Int32, (∀ j, 2 * d - 1 ≤ j → j < 15 → s j = nI j) → post (f1, f2, f3, f4, f5, f6, a1, a2, a3, a4, a5, a6, a7, a8, a9, a10, a11, a12, a13, a14, a15, a16, a17, a18, a19, a20, a21, s)) : wpX_partLayer post (f1, f2, f3, f4, f5, f6, a1, a2, a3, a4, a5, a6, a7, a8, a9, a10, a11, a12, a13, a14, a15, a16, a17, a18, a19, a20, a21, a22) x := by
  subst hx
  have hG' := hG
  obtain ⟨hf, _, h14, hK, hH⟩ := hG'
  refine ⟨pk_in d 10 (by omega), nm_r (e' := nI (2 * d - 1)) (by rw [nI_clamp (by omega)]; exact h14 d (by omega)) (pk_eq d 7 (fun z => wr_p24 (b := 1) hm hd (by rw [if_pos z]) hG h22 H) (fun z => wr_p24 (b := 0) hm hd (by rw [if_neg z]) hG h22 H) rfl hf)⟩
theorem wr_g48 {post : Int32 → St2 → Prop} {l : Nat} (hl : l < 8) (hG : wr_G m (f1, f2, f3, f4, f5, f6, a1, a2, a3, a4, a5, a6, a7, a8, a9, a10, a11, a12, a13, a14, a15, a16, a17, a18, a19, a20, a21, a22)) (h22 : ∀ j, 2 * l - 1 ≤ j → j < 15 → a22 j = nI j) (H : post (nI (if l = 0 then 1 else 2)) (f1, f2, f3, f4, f5, f6, a1, a2, a3, a4, a5, a6, a7, a8, a9, a10, a11, a12, a13, a14, a15, a16, a17, a18, a19, a20, a21, a22)) : ∃ n, wX_groups_48 post (nI l) f1 f2 f3 f4 f5 f6 a1 a2 a3 a4 a5 a6 a7 a8 a9 a10 a11 a12 a13 a14 a15 a16 a17 a18 a19 a20 a21 a22 n 0 (nI (2 * l - 1)) := by
  have hG' := hG
  obtain ⟨_, _, h14, hK, hH⟩ := hG'
  have eL : a14 (nI l + 1).toNatClampNeg = nI (2 * l + 1) := by
    rw [nI_1, nI_clamp (by omega), h14 (l + 1) (by omega)]
    exact congrArg nI (by omega)
  have hh := pk_loop (σ := Unit) (fun n i _ => wX_groups_48 post (nI l) f1 f2 f3 f4 f5 f6 a1 a2 a3 a4 a5 a6 a7 a8 a9 a10 a11 a12 a13 a14 a15 a16 a17 a18 a19 a20 a21 a22 n (nI (i - (2 * l - 1))) (nI i)) (fun i _ => 2 * l - 1 ≤ i) (2 * l + 1) (2 * l - 1) () (by omega) (Nat.le_refl _) ?_ ?_
  · obtain ⟨n, hn⟩ := hh
    have hn' : wX_groups_48 post (nI l) f1 f2 f3 f4 f5 f6 a1 a2 a3 a4 a5 a6 a7 a8 a9 a10 a11 a12 a13 a14 a15 a16 a17 a18 a19 a20 a21 a22 n (nI (2 * l - 1 - (2 * l - 1))) (nI (2 * l - 1)) := hn
    rw [Nat.sub_self] at hn'
    exact ⟨n, hn'⟩
  · intro n _ _
    refine ⟨pk_in (l + 1) 10 (by omega) (nI_1 l), pk_le (2 * l + 1) (2 * l + 1) (fun _ => ?_) (fun z => absurd z (by omega)) eL⟩
    have e : 2 * l + 1 - (2 * l - 1) = if l = 0 then 1 else 2 := by
      by_cases h : l = 0
      · rw [if_pos h]; omega
      · rw [if_neg h]; omega
    rw [e]
    exact H
  · intro n i _ hi hi' hw
    have hi2 : 2 * l - 1 ≤ i := hi'
    have t : wX_groups_48 post (nI l) f1 f2 f3 f4 f5 f6 a1 a2 a3 a4 a5 a6 a7 a8 a9 a10 a11 a12 a13 a14 a15 a16 a17 a18 a19 a20 a21 a22 n (nI (i + 1 - (2 * l - 1))) (nI (i + 1)) := hw () (by omega)
    refine ⟨pk_in (l + 1) 10 (by omega) (nI_1 l), pk_le (2 * l + 1) i (fun z => absurd z (by omega)) (fun _ => ⟨pk_in i 256 (by omega), br_t (by rw [nI_clamp (by omega)]; exact h22 i hi2 (by omega)) (nm_r (e' := nI (i + 1 - (2 * l - 1))) ?_ (nm_r (nI_1 i) t))⟩) eL⟩
    rw [nI_1]
    exact congrArg nI (by omega)
def wr_V (u : St2) : Nat → Int32 := match u with
  | (f1, f2, f3, f4, f5, f6, a1, a2, a3, a4, a5, a6, a7, a8, a9, a10, a11, a12, a13, a14, a15, a16, a17, a18, a19, a20, a21, a22) => a22
theorem wr_groups {post : Int32 → St2 → Prop} {u : St2} {x : Int32} (hm : m < 128) (hR : wr_R m u) (H : ∀ r u', wr_sp 8 x r (fun l => if l = 0 then 1 else 2) → post r u') : wpX_groups post u x := by
  obtain ⟨f1, f2, f3, f4, f5, f6, a1, a2, a3, a4, a5, a6, a7, a8, a9, a10, a11, a12, a13, a14, a15, a16, a17, a18, a19, a20, a21, a22⟩ := u
  have hf := wr_f1 hR
  subst hf
  rcases pk_ix x (n := 8) (by omega) with h | h | ⟨l, hl, rfl⟩
  · exact br_t h (H _ _ (wr_spN (by omega) (Or.inl h)))
  · refine br_c (fun _ => H _ _ (wr_spN (by omega) (Or.inr h))) (fun _ => br_f ?_ (H _ _ (wr_spN (by omega) (Or.inr h))))
    intro h7
    rw [Int32.le_iff_toInt_le] at h h7
    have e8 : (nI 8).toInt = 8 := by decide
    have e7 : (7 : Int32).toInt = 7 := by decide
    omega
  · refine pk_lt l 0 (fun z => absurd z (by omega)) (fun _ => pk_le l 7 (fun _ => ?_) (fun z => absurd z (by omega)))
    refine wr_build hm hR (fun u' hG => ?_)
    have key : ∀ u : St2, wr_G m u → ∃ n, wr_ap (wX_groups_23 post (nI l) n (nI (l + (8 - l)) - 1)) u := by
      intro u hG
      refine ⟨_, pk_loopD (σ := St2) (fun n e u => wr_ap (wX_groups_23 post (nI l) n (nI (l + e) - 1)) u) (fun e u => e ≤ 8 - l ∧ wr_G m u ∧ ∀ j, 2 * (l + e) - 1 ≤ j → j < 15 → wr_V u j = nI j) ?_ ?_ (8 - l) u ⟨Nat.le_refl _, hG, fun j h1 h2 => absurd h2 (by omega)⟩⟩
      · rintro n u ⟨_, hG, hV⟩
        obtain ⟨g1, g2, g3, g4, g5, g6, b1, b2, b3, b4, b5, b6, b7, b8, b9, b10, b11, b12, b13, b14, b15, b16, b17, b18, b19, b20, b21, b22⟩ := u
        have h14 := hG.2.2.1
        refine br_t (wr_plt (by omega)) ⟨pk_in l 10 (by omega), nm_r (e' := nI (2 * l - 1)) (by rw [nI_clamp (by omega)]; exact h14 l (by omega)) (wr_g48 hl hG hV (H _ _ (wr_spP (by omega) hl rfl rfl)))⟩
      · rintro n e u ⟨he, hG, hV⟩ hw
        obtain ⟨g1, g2, g3, g4, g5, g6, b1, b2, b3, b4, b5, b6, b7, b8, b9, b10, b11, b12, b13, b14, b15, b16, b17, b18, b19, b20, b21, b22⟩ := u
        show wX_groups_23 post (nI l) (n + 1) (nI (l + e + 1) - 1) g1 g2 g3 g4 g5 g6 b1 b2 b3 b4 b5 b6 b7 b8 b9 b10 b11 b12 b13 b14 b15 b16 b17 b18 b19 b20 b21 b22
        rw [nI_pred]
        refine pk_lt (l + e) l (fun z => absurd z (by omega)) (fun _ => wr_part (d := l + e) hm (by omega) rfl hG (fun j h1 h2 => hV j (by omega) h2) (fun s hs => nm_r (wr_m1 _) (hw (g1, g2, g3, g4, g5, g6, b1, b2, b3, b4, b5, b6, b7, b8, b9, b10, b11, b12, b13, b14, b15, b16, b17, b18, b19, b20, b21, s) ⟨by omega, wr_G22 hG s, hs⟩)))
    obtain ⟨g1, g2, g3, g4, g5, g6, b1, b2, b3, b4, b5, b6, b7, b8, b9, b10, b11, b12, b13, b14, b15, b16, b17, b18, b19, b20, b21, b22⟩ := u'
    have hf' : g1 = 7 := hG.1
    have k := key _ hG
    rw [show l + (8 - l) = 8 by omega] at k
    subst hf'
    exact k
end wr6
end
section
/-! the law -/
section wr7
variable {f1 f2 f3 f4 f5 f6 : Int32} {a1 a2 a3 a4 a5 a6 a7 a8 a9 a10 a11 a12 a13 a14 a15 a16 a17 a18 a19 a20 a21 a22 : Nat → Int32} {m : Nat} {post : Int32 → St0 → Prop} {mc ms kc ks : Nat} {x1 x2 rI rR rF rG x15 x16 z0 z1 w : Int32}
theorem wr_c310 (H : post 1 ()) (h : z1 = z0) : wL_lawOf_310 post mc ms z0 z1 kc ks := br_t h H
theorem wr_c297 (H : post 1 ()) (h : z0 = -1) : wL_lawOf_297 post mc ms z0 kc ks := by
  unfold wL_lawOf_297
  exact wr_c310 H h
theorem wr_c282 (H : post 1 ()) (h : z1 = z0) (hG : wr_sp 8 x2 rG (fun l => if l = 0 then 1 else 2)) : wL_lawOf_282 post mc ms x2 rG z0 z1 kc ks := by
  refine br_t h ?_
  rcases pk_ix x2 (n := 8) (by omega) with g | g | ⟨l, hl, rfl⟩
  · exact br_t g (wr_c297 H (hG.1 (Or.inl g)))
  · refine br_c (fun _ => wr_c297 H (hG.1 (Or.inr g))) (fun _ => br_f ?_ (wr_c297 H (hG.1 (Or.inr g))))
    intro h7
    rw [Int32.le_iff_toInt_le] at g h7
    have e8 : (nI 8).toInt = 8 := by decide
    have e7 : (7 : Int32).toInt = 7 := by decide
    omega
  · have hr := hG.2 l hl rfl
    dsimp only at hr
    refine pk_lt l 0 (fun z => absurd z (by omega)) (fun _ => pk_le l 7 (fun _ => pk_eq l 0 (fun z => wr_c310 H ?_) (fun z => wr_c310 H ?_)) (fun z => absurd z (by omega)))
    · rw [hr, if_pos z]; rfl
    · rw [hr, if_neg z]; rfl
theorem wr_c255 (hm : m < 128) (H : post 1 ()) (h : z1 = z0) (hh : (x16 = 0 ∧ (x1 < 0 ∨ nI 8 ≤ x1)) ∨ (x16 = 1 ∧ ∃ q : Nat, q < 8 ∧ x1 = nI q)) (hF : wr_sp 8 x1 rF (fun q => if q = m / 16 then 1 else 0)) (hG : wr_sp 8 x2 rG (fun l => if l = 0 then 1 else 2)) : wL_lawOf_255 post mc ms x1 x2 (nI m) rF rG x16 z0 z1 kc ks := by
  refine br_t h ?_
  rcases hh with ⟨e, g⟩ | ⟨e, q, hq, rfl⟩
  · exact br_t e (wr_c282 H (hF.1 g) hG)
  · have hr := hF.2 q hq rfl
    dsimp only at hr
    refine br_f (by rw [e]; decide) ?_
    refine pk_eq (m / 16) q (fun z => wr_c282 H ?_ hG) (fun z => wr_c282 H ?_ hG) (pk_shrN (by omega) _ 4 (by decide)) rfl (by omega) (by omega)
    · rw [hr, if_pos z.symm]; rfl
    · rw [hr, if_neg (fun t => z t.symm)]; rfl
theorem wr_c230 (hm : m < 128) (H : post 1 ()) (h : z1 = z0) (hv : (x15 = 0 ∧ (x1 < 0 ∨ nI 128 ≤ x1)) ∨ (x15 = 1 ∧ ∃ q : Nat, q < 128 ∧ x1 = nI q)) (hh : (x16 = 0 ∧ (x1 < 0 ∨ nI 8 ≤ x1)) ∨ (x16 = 1 ∧ ∃ q : Nat, q < 8 ∧ x1 = nI q)) (hR : wr_sp 128 x1 rR (fun q => if m < q then 1 else 0)) (hF : wr_sp 8 x1 rF (fun q => if q = m / 16 then 1 else 0)) (hG : wr_sp 8 x2 rG (fun l => if l = 0 then 1 else 2)) : wL_lawOf_230 post mc ms x1 x2 (nI m) rR rF rG x15 x16 z0 z1 kc ks := by
  refine br_t h ?_
  rcases hv with ⟨e, g⟩ | ⟨e, q, hq, rfl⟩
  · exact br_t e (wr_c255 hm H (hR.1 g) hh hF hG)
  · have hr := hR.2 q hq rfl
    dsimp only at hr
    refine br_f (by rw [e]; decide) ?_
    refine pk_le q m (fun z => wr_c255 hm H ?_ hh hF hG) (fun z => wr_c255 hm H ?_ hh hF hG)
    · rw [hr, if_neg (by omega)]; rfl
    · rw [hr, if_pos z]; rfl
theorem wr_c168 (hm : m < 128) (H : post 1 ()) (hv : (x15 = 0 ∧ (x1 < 0 ∨ nI 128 ≤ x1)) ∨ (x15 = 1 ∧ ∃ q : Nat, q < 128 ∧ x1 = nI q)) (hh : (x16 = 0 ∧ (x1 < 0 ∨ nI 8 ≤ x1)) ∨ (x16 = 1 ∧ ∃ q : Nat, q < 8 ∧ x1 = nI q)) (hI : wr_sp 128 x1 rI (fun q => if q = m then 1 else 0)) (hR : wr_sp 128 x1 rR (fun q => if m < q then 1 else 0)) (hF : wr_sp 8 x1 rF (fun q => if q = m / 16 then 1 else 0)) (hG : wr_sp 8 x2 rG (fun l => if l = 0 then 1 else 2)) : wL_lawOf_168 post mc ms x1 x2 (nI m) 1 7 0 1 7 (nI m) rI rR rF rG x15 x16 kc ks := by
  refine br_t rfl (br_t rfl (br_t rfl (br_t rfl (br_t rfl (br_t rfl ?_)))))
  have hv' := hv
  rcases hv' with ⟨e, g⟩ | ⟨e, q, hq, rfl⟩
  · exact br_t e (wr_c230 hm H (hI.1 g) hv hh hR hF hG)
  · have hr := hI.2 q hq rfl
    dsimp only at hr
    refine br_f (by rw [e]; decide) ?_
    refine pk_eq q m (fun z => wr_c230 hm H ?_ hv hh hR hF hG) (fun z => wr_c230 hm H ?_ hv hh hR hF hG)
    · rw [hr, if_pos z]; rfl
    · rw [hr, if_neg z]; rfl
theorem wr_c151 (hm : m < 128) (H : post 1 ()) (hv : (x15 = 0 ∧ (x1 < 0 ∨ nI 128 ≤ x1)) ∨ (x15 = 1 ∧ ∃ q : Nat, q < 128 ∧ x1 = nI q)) (hI : wr_sp 128 x1 rI (fun q => if q = m then 1 else 0)) (hR : wr_sp 128 x1 rR (fun q => if m < q then 1 else 0)) (hF : wr_sp 8 x1 rF (fun q => if q = m / 16 then 1 else 0)) (hG : wr_sp 8 x2 rG (fun l => if l = 0 then 1 else 2)) : wL_lawOf_151 post mc ms x1 x2 (nI m) 1 7 0 1 7 (nI m) rI rR rF rG x15 kc ks := by
  refine br_c (fun g => ?_) (fun g => br_c (fun g2 => ?_) (fun g2 => ?_))
  · unfold wL_lawOf_167
    exact wr_c168 hm H hv (Or.inl ⟨rfl, Or.inl g⟩) hI hR hF hG
  · unfold wL_lawOf_167
    exact wr_c168 hm H hv (Or.inl ⟨rfl, Or.inr g2⟩) hI hR hF hG
  · refine wr_c168 hm H hv (Or.inr ⟨rfl, ?_⟩) hI hR hF hG
    rcases pk_ix x1 (n := 8) (by omega) with t | t | t
    · exact absurd t g
    · exact absurd t g2
    · exact t
theorem wr_cEnd (hm : m < 128) (H : post 1 ()) (hI : wr_sp 128 x1 rI (fun q => if q = m then 1 else 0)) (hR : wr_sp 128 x1 rR (fun q => if m < q then 1 else 0)) (hF : wr_sp 8 x1 rF (fun q => if q = m / 16 then 1 else 0)) (hG : wr_sp 8 x2 rG (fun l => if l = 0 then 1 else 2)) : (x1 < 0 → wL_lawOf_150 post mc ms x1 x2 (nI m) 1 7 0 1 7 (nI m) rI rR rF rG kc ks) ∧ (¬ x1 < 0 → ((128 ≤ x1 → wL_lawOf_150 post mc ms x1 x2 (nI m) 1 7 0 1 7 (nI m) rI rR rF rG kc ks) ∧ (¬ 128 ≤ x1 → wL_lawOf_151 post mc ms x1 x2 (nI m) 1 7 0 1 7 (nI m) rI rR rF rG 1 kc ks))) := by
  refine br_c (fun g => ?_) (fun g => br_c (fun g2 => ?_) (fun g2 => ?_))
  · unfold wL_lawOf_150
    exact wr_c151 hm H (Or.inl ⟨rfl, Or.inl g⟩) hI hR hF hG
  · unfold wL_lawOf_150
    exact wr_c151 hm H (Or.inl ⟨rfl, Or.inr g2⟩) hI hR hF hG
  · refine wr_c151 hm H (Or.inr ⟨rfl, ?_⟩) hI hR hF hG
    rcases pk_ix x1 (n := 128) (by omega) with t | t | t
    · exact absurd t g
    · exact absurd t g2
    · exact t
theorem wr_dep {q : Int32 → Prop} (h : q f2) : wpX_depth q (f1, f2, f3, f4, f5, f6, a1, a2, a3, a4, a5, a6, a7, a8, a9, a10, a11, a12, a13, a14, a15, a16, a17, a18, a19, a20, a21, a22) := h
theorem wr_lts {q : Int32 → Prop} (h : q f3) : wpX_letters q (f1, f2, f3, f4, f5, f6, a1, a2, a3, a4, a5, a6, a7, a8, a9, a10, a11, a12, a13, a14, a15, a16, a17, a18, a19, a20, a21, a22) := h
theorem wr_l45 {u : St2} (hm : m < 128) (H : post 1 ()) (hC : wr_C m 0 u) : ∃ n, wr_ap (wL_lawOf_45 post mc ms x1 x2 (nI m) kc ks n (nI 0)) u := by
  refine pk_loop (σ := St2) (fun n k u => wr_ap (wL_lawOf_45 post mc ms x1 x2 (nI m) kc ks n (nI k)) u) (fun k u => wr_C m k u) 6 0 u (by omega) hC ?_ ?_
  · intro n u hC
    obtain ⟨f1, f2, f3, f4, f5, f6, a1, a2, a3, a4, a5, a6, a7, a8, a9, a10, a11, a12, a13, a14, a15, a16, a17, a18, a19, a20, a21, a22⟩ := u
    have h2 : f2 = 1 := hC.2.1
    have h3 : f3 = 7 := hC.2.2.1
    subst h2 h3
    refine pk_le 6 6 (fun _ => wr_dep (wr_lts (wr_store hm hC (fun u1 hR1 => ?_)))) (fun z => absurd z (by omega))
    obtain ⟨g1, g2, g3, g4, g5, g6, b1, b2, b3, b4, b5, b6, b7, b8, b9, b10, b11, b12, b13, b14, b15, b16, b17, b18, b19, b20, b21, b22⟩ := u1
    refine wr_total hm hR1 (fun u2 hR2 => ?_)
    obtain ⟨f1, f2, f3, f4, f5, f6, a1, a2, a3, a4, a5, a6, a7, a8, a9, a10, a11, a12, a13, a14, a15, a16, a17, a18, a19, a20, a21, a22⟩ := u2
    refine wr_wlen hm hR2 (fun u3 hR3 => ?_)
    obtain ⟨g1, g2, g3, g4, g5, g6, b1, b2, b3, b4, b5, b6, b7, b8, b9, b10, b11, b12, b13, b14, b15, b16, b17, b18, b19, b20, b21, b22⟩ := u3
    refine wr_wbits hm hR3 (fun u4 hR4 => ?_)
    obtain ⟨f1, f2, f3, f4, f5, f6, a1, a2, a3, a4, a5, a6, a7, a8, a9, a10, a11, a12, a13, a14, a15, a16, a17, a18, a19, a20, a21, a22⟩ := u4
    refine wr_isC hm hR4 (fun rI u5 hI hR5 => ?_)
    obtain ⟨g1, g2, g3, g4, g5, g6, b1, b2, b3, b4, b5, b6, b7, b8, b9, b10, b11, b12, b13, b14, b15, b16, b17, b18, b19, b20, b21, b22⟩ := u5
    refine wr_rank hm hR5 (fun rR u6 hRk hR6 => ?_)
    obtain ⟨f1, f2, f3, f4, f5, f6, a1, a2, a3, a4, a5, a6, a7, a8, a9, a10, a11, a12, a13, a14, a15, a16, a17, a18, a19, a20, a21, a22⟩ := u6
    refine wr_countF hm hR6 (fun rF u7 hF hR7 => ?_)
    obtain ⟨g1, g2, g3, g4, g5, g6, b1, b2, b3, b4, b5, b6, b7, b8, b9, b10, b11, b12, b13, b14, b15, b16, b17, b18, b19, b20, b21, b22⟩ := u7
    refine wr_groups hm hR7 (fun rG u8 hG => ?_)
    obtain ⟨f1, f2, f3, f4, f5, f6, a1, a2, a3, a4, a5, a6, a7, a8, a9, a10, a11, a12, a13, a14, a15, a16, a17, a18, a19, a20, a21, a22⟩ := u8
    exact wr_cEnd hm H hI hRk hF hG
  · intro n k u hk hC hw
    obtain ⟨f1, f2, f3, f4, f5, f6, a1, a2, a3, a4, a5, a6, a7, a8, a9, a10, a11, a12, a13, a14, a15, a16, a17, a18, a19, a20, a21, a22⟩ := u
    refine pk_le 6 k (fun z => absurd z (by omega)) (fun _ => wr_cat hk hC (fun r u' hC' => ?_))
    obtain ⟨g1, g2, g3, g4, g5, g6, b1, b2, b3, b4, b5, b6, b7, b8, b9, b10, b11, b12, b13, b14, b15, b16, b17, b18, b19, b20, b21, b22⟩ := u'
    exact nm_r (nI_1 k) (hw (g1, g2, g3, g4, g5, g6, b1, b2, b3, b4, b5, b6, b7, b8, b9, b10, b11, b12, b13, b14, b15, b16, b17, b18, b19, b20, b21, b22) hC')
theorem wr_LC {u : St2} (hL : wr_L m 7 u) : wr_C m 0 u := by
  obtain ⟨f1, f2, f3, f4, f5, f6, a1, a2, a3, a4, a5, a6, a7, a8, a9, a10, a11, a12, a13, a14, a15, a16, a17, a18, a19, a20, a21, a22⟩ := u
  obtain ⟨e1, e2, e3, e4, e5, h1, h2, h4, h6, hZ⟩ := hL
  refine ⟨e1, e2, e3, e4, e5, h1 (by omega), fun j hj => ⟨(h2 j hj).1, (h2 j hj).2.2⟩, fun j hj => (h2 j (by omega)).2.1, (h2 6 (by omega)).2.1, h4, fun p hp => ?_, hZ⟩
  rw [h6 p hp, if_neg (by omega)]
  rfl
theorem wr_l20 {u : St2} (hm : m < 128) (H : post 1 ()) (hw : w &&& 127 = nI m) (hL : wr_L m 0 u) : ∃ n, wr_ap (wL_lawOf_20 post mc ms w x1 x2 (nI m) kc ks n (nI 7 - 1)) u := by
  refine ⟨_, pk_loopD (σ := St2) (fun n e u => wr_ap (wL_lawOf_20 post mc ms w x1 x2 (nI m) kc ks n (nI e - 1)) u) (fun e u => e ≤ 7 ∧ wr_L m (7 - e) u) ?_ ?_ 7 u ⟨Nat.le_refl _, by rw [Nat.sub_self]; exact hL⟩⟩
  · rintro n u ⟨_, hL⟩
    have hC := wr_LC hL
    obtain ⟨f1, f2, f3, f4, f5, f6, a1, a2, a3, a4, a5, a6, a7, a8, a9, a10, a11, a12, a13, a14, a15, a16, a17, a18, a19, a20, a21, a22⟩ := u
    exact br_t (by decide) (wr_l45 hm H hC)
  · rintro n e u ⟨he, hL⟩ hk
    obtain ⟨f1, f2, f3, f4, f5, f6, a1, a2, a3, a4, a5, a6, a7, a8, a9, a10, a11, a12, a13, a14, a15, a16, a17, a18, a19, a20, a21, a22⟩ := u
    show wL_lawOf_20 post mc ms w x1 x2 (nI m) kc ks (n + 1) (nI (e + 1) - 1) f1 f2 f3 f4 f5 f6 a1 a2 a3 a4 a5 a6 a7 a8 a9 a10 a11 a12 a13 a14 a15 a16 a17 a18 a19 a20 a21 a22
    rw [nI_pred]
    rw [show 7 - (e + 1) = 6 - e by omega] at hL
    refine pk_lt e 0 (fun z => absurd z (by omega)) (fun _ => wr_letter (k := 6 - e) (by omega) hL (wr_kbw w hm hw (by omega)) (fun r u' hL' => ?_))
    obtain ⟨g1, g2, g3, g4, g5, g6, b1, b2, b3, b4, b5, b6, b7, b8, b9, b10, b11, b12, b13, b14, b15, b16, b17, b18, b19, b20, b21, b22⟩ := u'
    refine nm_r (wr_m1 _) (hk (g1, g2, g3, g4, g5, g6, b1, b2, b3, b4, b5, b6, b7, b8, b9, b10, b11, b12, b13, b14, b15, b16, b17, b18, b19, b20, b21, b22) ⟨by omega, ?_⟩)
    rw [show 7 - e = 6 - e + 1 by omega]
    exact hL'
theorem wr_init {q : St2 → Prop} (H : ∀ u', wr_L m 0 u' → q u') : wpX_init q 22 2177 (0, 0, 0, 0, 0, 0) 7 := by
  refine ⟨by decide, by decide, by decide, by decide, by decide, by decide, by decide, by decide, by decide, by decide, by decide, by decide, by decide, by decide, by decide, by decide, by decide, by decide, by decide, by decide, by decide, by decide, by decide, by decide, by decide, by decide, by decide, by decide, by decide, by decide, by decide, by decide, by decide, by decide, by decide, by decide, by decide, by decide, by decide, by decide, by decide, by decide, by decide, by decide, ?_⟩
  refine pk_le 1 7 (fun _ => pk_le 7 7 (fun _ => H _ ?_) (fun z => absurd z (by omega))) (fun z => absurd z (by omega))
  exact ⟨rfl, rfl, rfl, rfl, rfl, fun h => absurd h (by omega), fun j hj => absurd hj (by omega), fun _ _ => rfl, fun _ _ => rfl, ⟨fun _ _ => ⟨rfl, rfl, rfl⟩, fun _ _ => rfl⟩⟩
theorem wr_law (H : post 1 ()) : wpL_lawOf post 23 2205 () w x1 x2 := by
  obtain ⟨m, hm, hw⟩ := pk_andE w (m := 127) 7 (by decide)
  refine ⟨by decide, by decide, 22, 2177, by decide, by decide, wr_init (m := m) (fun u' hL => ?_)⟩
  have k := wr_l20 (post := post) (mc := 23) (ms := 2205) (kc := 1 + 22) (ks := 28 + 2177) (x1 := x1) (x2 := x2) (u := u') hm H hw hL
  obtain ⟨f1, f2, f3, f4, f5, f6, a1, a2, a3, a4, a5, a6, a7, a8, a9, a10, a11, a12, a13, a14, a15, a16, a17, a18, a19, a20, a21, a22⟩ := u'
  exact nm_r hw k
theorem wr_cell {q : Int32 → Prop} {L k : Nat} {xs : Nat → Int32} {p : Int32} (hL : L ≤ 3) (hk : k < 3) (hp : p = nI k) (H : ∀ r, q r) : wpL_cellAt q L xs () p := by
  subst hp
  exact pk_le L k (fun _ => H 0) (fun z => ⟨pk_in k L z, H _⟩)
end wr7
theorem i_vc (xs : Nat → Int32) (L : Nat) (hL : L ≤ 3) : wpL_law (fun r => r = 1) L xs := by
  unfold wpL_law
  exact wr_cell (k := 0) hL (by omega) rfl (fun r1 => wr_cell (k := 1) hL (by omega) rfl (fun r2 => wr_cell (k := 2) hL (by omega) rfl (fun r3 => ⟨23, 2205, by decide, by decide, wr_law rfl⟩)))
end
