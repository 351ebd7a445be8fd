section
/-! bits of Int32 at naturals, and the pure picture of the law's one run -/
theorem rt_sl : ∀ n, n < 32 → ((nI n &&& 31).toBitVec.smod 32).toNat = n := by decide +kernel
theorem rt_and (a b : Nat) : nI a &&& nI b = nI (a &&& b) := by
  apply Int32.toBitVec_inj.1
  show BitVec.ofNat 32 a &&& BitVec.ofNat 32 b = BitVec.ofNat 32 (a &&& b)
  apply BitVec.eq_of_getLsbD_eq
  intro i hi
  simp [hi]
theorem rt_or (a b : Nat) : nI a ||| nI b = nI (a ||| b) := by
  apply Int32.toBitVec_inj.1
  show BitVec.ofNat 32 a ||| BitVec.ofNat 32 b = BitVec.ofNat 32 (a ||| b)
  apply BitVec.eq_of_getLsbD_eq
  intro i hi
  simp [hi]
theorem rt_xor (a b : Nat) : nI a ^^^ nI b = nI (a ^^^ b) := by
  apply Int32.toBitVec_inj.1
  show BitVec.ofNat 32 a ^^^ BitVec.ofNat 32 b = BitVec.ofNat 32 (a ^^^ b)
  apply BitVec.eq_of_getLsbD_eq
  intro i hi
  simp [hi]
theorem rt_sh1 : ∀ j, j < 31 → (1 : Int32) <<< (nI j &&& 31) = nI (2 ^ j) := by decide +kernel
theorem rt_byte : ∀ x, x < 18 → (nI x).toInt8.toInt32 = nI x := by decide +kernel
theorem rt_bit {S j : Nat} (hS : S < 2 ^ 31) (hj : j < 32) : (nI S >>> (nI j &&& 31)) &&& 1 = nI (S / 2 ^ j % 2) := by
  have hd : S / 2 ^ j ≤ S := Nat.div_le_self _ _
  rw [pk_shrN hS _ j (rt_sl j hj), pk_andN (n := S / 2 ^ j) (by omega) (m := 1) 1 (by decide), Nat.pow_one]
theorem rt_bit0 {S j : Nat} (hS : S < 2 ^ 31) (hj : j < 32) (h : S.testBit j = false) : (nI S >>> (nI j &&& 31)) &&& 1 = 0 := by
  rw [Nat.testBit_eq_decide_div_mod_eq, decide_eq_false_iff_not] at h
  rw [rt_bit hS hj, show S / 2 ^ j % 2 = 0 by omega, nI_0]
theorem rt_bit1 {S j : Nat} (hS : S < 2 ^ 31) (hj : j < 32) (h : S.testBit j = true) : (nI S >>> (nI j &&& 31)) &&& 1 = 1 := by
  rw [Nat.testBit_eq_decide_div_mod_eq, decide_eq_true_iff] at h
  rw [rt_bit hS hj, h]
  rfl
theorem rt_ones : ∀ z, z < 32 → Nat.testBit 4294967295 z = true := by decide +kernel
theorem rt_fr {z b : Nat} (hz : z < 32) (h : b.testBit z = false) : nI (2 ^ z) &&& (nI b ^^^ (-1)) = nI (2 ^ z) := by
  show nI (2 ^ z) &&& (nI b ^^^ nI 4294967295) = nI (2 ^ z)
  rw [rt_xor, rt_and]
  congr 1
  apply Nat.eq_of_testBit_eq
  intro i
  rw [Nat.testBit_and, Nat.testBit_xor, Nat.testBit_two_pow]
  by_cases e : z = i
  · subst e
    simp [h, rt_ones z hz]
  · simp [e]
theorem rt_0and (x : Int32) : 0 &&& x = 0 := by
  apply Int32.toBitVec_inj.1
  rw [Int32.toBitVec_and]
  exact BitVec.zero_and
theorem rt_or0 (x : Int32) : x ||| 0 = x := by
  apply Int32.toBitVec_inj.1
  rw [Int32.toBitVec_or]
  exact BitVec.or_zero
theorem rt_0or (x : Int32) : 0 ||| x = x := by
  apply Int32.toBitVec_inj.1
  rw [Int32.toBitVec_or]
  exact BitVec.zero_or
theorem rt_xor0 (x : Int32) : x ^^^ 0 = x := by
  apply Int32.toBitVec_inj.1
  rw [Int32.toBitVec_xor]
  exact BitVec.xor_zero
theorem rt_self : ∀ q, q < 31 → nI (2 ^ q) &&& (nI (2 ^ q) ^^^ (-1)) = 0 := by decide +kernel
theorem rt_0shl : ∀ j, j < 32 → (0 : Int32) <<< (nI j &&& 31) = 0 := by decide +kernel
theorem rt_shl {a j : Nat} (hj : j < 32) (h : 2 ^ a * 2 ^ j < 2 ^ 32) : nI (2 ^ a) <<< (nI j &&& 31) = nI (2 ^ (j + a)) := by
  rw [pk_shlN _ j (rt_sl j hj) h, ← Nat.pow_add, Nat.add_comm]
/-- a masked cache cell: what is kept of it under 2^18 - 1 -/
theorem rt_mask {S : Nat} (h : S < 2 ^ 18) : nI (S ||| 262144) &&& 262143 = nI S := by
  show nI (S ||| 262144) &&& nI 262143 = nI S
  rw [rt_and, show (262143 : Nat) = 2 ^ 18 - 1 from rfl, Nat.and_two_pow_sub_one_eq_mod]
  congr 1
  apply Nat.eq_of_testBit_eq
  intro i
  rw [Nat.testBit_mod_two_pow, Nat.testBit_or, show (262144 : Nat) = 2 ^ 18 from rfl, Nat.testBit_two_pow]
  by_cases e : i < 18
  · simp [e, show ¬ 18 = i by omega]
  · rw [Nat.testBit_lt_two_pow (Nat.lt_of_lt_of_le h (Nat.pow_le_pow_right (by decide) (by omega : 18 ≤ i)))]
    simp [e]
/-! the parameters: group g nested in group h, relation h % 3 gives to relation s, person p entered in g -/
def rt_P (g h s p : Nat) : Prop := g < 18 ∧ h < 18 ∧ s < 3 ∧ p < 6 ∧ h % 3 ≠ s ∧ g / 3 ≠ h / 3
/-- the one source of a group in state c, 18: none -/
def rt_nx (g h s c x : Nat) : Nat := if x = h ∧ 1 ≤ c ∧ c ≤ 3 then g else if x % 3 = s ∧ 2 ≤ c then 3 * (x / 3) + h % 3 else 18
def rt_src (g h s c : Nat) : Nat → Nat → Nat
  | 0, x => 2 ^ x
  | n + 1, x => if rt_nx g h s c x < 18 then 2 ^ x ||| rt_src g h s c n (rt_nx g h s c x) else 2 ^ x
/-- the sources of a group in state c -/
def rt_S (g h s c x : Nat) : Nat := rt_src g h s c 4 x
def rt_mu (h s x : Nat) : Nat := (if x / 3 = h / 3 then 2 else 0) + (if x % 3 = s then 1 else 0)
theorem rt_mu_le (h s x : Nat) : rt_mu h s x < 4 := by
  unfold rt_mu
  split <;> split <;> omega
theorem rt_mu_lt {g h s p c x : Nat} (hP : rt_P g h s p) (hn : rt_nx g h s c x < 18) : rt_mu h s (rt_nx g h s c x) < rt_mu h s x := by
  obtain ⟨h1, h2, h3, h4, h5, h6⟩ := hP
  by_cases e : x = h ∧ 1 ≤ c ∧ c ≤ 3
  · have : rt_nx g h s c x = g := if_pos e
    rw [this, e.1]
    unfold rt_mu
    rw [if_neg h6, if_pos rfl, if_neg h5]
    split <;> omega
  · by_cases e2 : x % 3 = s ∧ 2 ≤ c
    · have : rt_nx g h s c x = 3 * (x / 3) + h % 3 := by
        unfold rt_nx
        rw [if_neg e, if_pos e2]
      rw [this]
      unfold rt_mu
      rw [show (3 * (x / 3) + h % 3) / 3 = x / 3 by omega, show (3 * (x / 3) + h % 3) % 3 = h % 3 by omega, if_neg h5, if_pos e2.1]
      omega
    · have : rt_nx g h s c x = 18 := by
        unfold rt_nx
        rw [if_neg e, if_neg e2]
      omega
theorem rt_src_st {g h s p c : Nat} (hP : rt_P g h s p) : ∀ n x, rt_mu h s x < n → rt_src g h s c (n + 1) x = rt_src g h s c n x := by
  intro n
  induction n with
  | zero => intro x hx; omega
  | succ n ih =>
    intro x hx
    by_cases e : rt_nx g h s c x < 18
    · have hl := rt_mu_lt hP e
      show (if rt_nx g h s c x < 18 then 2 ^ x ||| rt_src g h s c (n + 1) (rt_nx g h s c x) else 2 ^ x) = (if rt_nx g h s c x < 18 then 2 ^ x ||| rt_src g h s c n (rt_nx g h s c x) else 2 ^ x)
      rw [ih _ (by omega)]
    · show (if rt_nx g h s c x < 18 then 2 ^ x ||| rt_src g h s c (n + 1) (rt_nx g h s c x) else 2 ^ x) = (if rt_nx g h s c x < 18 then 2 ^ x ||| rt_src g h s c n (rt_nx g h s c x) else 2 ^ x)
      rw [if_neg e, if_neg e]
theorem rt_S_eq {g h s p c : Nat} (hP : rt_P g h s p) (x : Nat) : rt_S g h s c x = if rt_nx g h s c x < 18 then 2 ^ x ||| rt_S g h s c (rt_nx g h s c x) else 2 ^ x :=
  (rt_src_st hP 4 x (rt_mu_le h s x)).symm
theorem rt_src_lt {g h s c : Nat} : ∀ n x, x < 18 → rt_src g h s c n x < 2 ^ 18 := by
  intro n
  induction n with
  | zero => intro x hx; exact Nat.pow_lt_pow_right (by decide) hx
  | succ n ih =>
    intro x hx
    have h2 : 2 ^ x < 2 ^ 18 := Nat.pow_lt_pow_right (by decide) hx
    show (if rt_nx g h s c x < 18 then 2 ^ x ||| rt_src g h s c n (rt_nx g h s c x) else 2 ^ x) < 2 ^ 18
    split
    · exact Nat.or_lt_two_pow h2 (ih _ (by assumption))
    · exact h2
theorem rt_S_lt {g h s c x : Nat} (hx : x < 18) : rt_S g h s c x < 2 ^ 18 := rt_src_lt 4 x hx
theorem rt_nx23 (g h s x : Nat) : rt_nx g h s 3 x = rt_nx g h s 2 x := by
  unfold rt_nx
  simp
theorem rt_src23 (g h s : Nat) : ∀ n x, rt_src g h s 3 n x = rt_src g h s 2 n x := by
  intro n
  induction n with
  | zero => intro x; rfl
  | succ n ih =>
    intro x
    show (if rt_nx g h s 3 x < 18 then 2 ^ x ||| rt_src g h s 3 n (rt_nx g h s 3 x) else 2 ^ x) = (if rt_nx g h s 2 x < 18 then 2 ^ x ||| rt_src g h s 2 n (rt_nx g h s 2 x) else 2 ^ x)
    rw [rt_nx23, ih]
theorem rt_S23 (g h s x : Nat) : rt_S g h s 3 x = rt_S g h s 2 x := rt_src23 g h s 4 x
/-! arrays of state c, and the list of changes up to state m -/
def rt_z : Nat → Int32 := fun _ => 0
def rt_ent (p g c : Nat) : Nat → Int32 := if 3 ≤ c then upd rt_z g (nI (2 ^ p)) else rt_z
def rt_nes (g h c : Nat) : Nat → Int32 := if 1 ≤ c ∧ c ≤ 3 then upd rt_z h (nI (2 ^ g)) else rt_z
def rt_rul (h s c : Nat) : Nat → Int32 := if 2 ≤ c then upd rt_z s (nI (2 ^ (h % 3))) else rt_z
def rt_lg (f : Nat → Int32) : Nat → Nat → Int32
  | 0 => rt_z
  | m + 1 => upd (rt_lg f m) (m + 1) (f (m + 1))
def rt_SO (i : Nat) : Int32 := if i = 2 then 2 else if i = 3 then 0 else 1
def rt_PA (g h p i : Nat) : Nat := if i = 2 then h % 3 else if i = 3 then p else g
def rt_PL (g h s i : Nat) : Nat := if i = 2 then s else if i = 3 then g else h
def rt_BE (i : Nat) : Int32 := if i = 4 then 1 else 0
def rt_AF (i : Nat) : Int32 := if i = 4 then 0 else 1
theorem rt_lg_at {f : Nat → Int32} {m i : Nat} (h1 : 1 ≤ i) (h2 : i ≤ m) : rt_lg f m i = f i := by
  induction m with
  | zero => omega
  | succ m ih =>
    show upd (rt_lg f m) (m + 1) (f (m + 1)) i = f i
    by_cases e : i = m + 1
    · rw [e, pk_us]
    · rw [pk_un e]
      exact ih (by omega)
/-- a state: L, M the fields loaded, latestState; c: the state whose arrays are held; m: how many changes are listed -/
abbrev rt_T (g h s p : Nat) (L M : Int32) (c m : Nat) (w : Int32) (a9 a10 a11 : Nat → Int32) : St2 :=
  (L, M, w, rt_ent p g c, rt_nes g h c, rt_rul h s c, rt_lg rt_SO m, rt_lg (fun i => nI (rt_PA g h p i)) m, rt_lg (fun i => nI (rt_PL g h s i)) m, rt_lg rt_BE m, rt_lg rt_AF m, a9, a10, a11)
abbrev rt_K (g h s p c m : Nat) (w : Int32) (a9 a10 a11 : Nat → Int32) : St2 := rt_T g h s p (nI c) (nI m) c m w a9 a10 a11
/-- what is kept of known sources holds in state c -/
def rt_ok (g h s c : Nat) (a9 : Nat → Int32) : Prop := ∀ j, j < 18 → a9 j = 0 ∨ a9 j = nI (rt_S g h s c j ||| 262144)
theorem rt_ok0 {g h s c : Nat} {a9 : Nat → Int32} (h0 : ∀ j, j < 18 → a9 j = 0) : rt_ok g h s c a9 := fun j hj => Or.inl (h0 j hj)
def rt_op (b x : Int32) (q : Nat) : Int32 := if b = 0 then x &&& (nI (2 ^ q) ^^^ (-1)) else x ||| nI (2 ^ q)
theorem rt_do (k q : Nat) : upd rt_z k (rt_op 1 (rt_z k) q) = upd rt_z k (nI (2 ^ q)) := by
  have : rt_op 1 (rt_z k) q = nI (2 ^ q) := by
    unfold rt_op
    rw [if_neg (by decide)]
    exact rt_0or _
  rw [this]
theorem rt_undo (k q : Nat) (hq : q < 31) : upd (upd rt_z k (nI (2 ^ q))) k (rt_op 0 (upd rt_z k (nI (2 ^ q)) k) q) = rt_z := by
  have : rt_op 0 (upd rt_z k (nI (2 ^ q)) k) q = 0 := by
    unfold rt_op
    rw [if_pos rfl, pk_us]
    exact rt_self q hq
  rw [this]
  funext j
  by_cases e : j = k
  · rw [e, pk_us]
    rfl
  · rw [pk_un e, pk_un e]
end
section
/-! make, load, noteChange -/
theorem rt_149 {post : St2 → Prop} {L M w : Int32} {a1 a2 a3 a4 a5 a6 a7 a8 a9 a10 a11 : Nat → Int32} (H : ∀ b9 : Nat → Int32, (∀ j, j < 18 → b9 j = 0) → post (L, M, w, a1, a2, a3, a4, a5, a6, a7, a8, b9, a10, a11)) :
    ∃ n, wX_make_149 post L M w n 0 a1 a2 a3 a4 a5 a6 a7 a8 a9 a10 a11 :=
  pk_loop (fun n i s => wX_make_149 post L M w n (nI i) a1 a2 a3 a4 a5 a6 a7 a8 s a10 a11) (fun i s => ∀ j, j < i → s j = 0) 18 0 a9 (by omega) (fun j hj => absurd hj (by omega))
    (fun n s h => pk_le 18 18 (fun _ => H s h) (fun z => absurd z (by omega)))
    (fun n i s hi h hw => pk_le 18 i (fun z => absurd z (by omega)) (fun _ => ⟨pk_in i 18 hi, nm_e (nm_r (nI_1 i) (hw _ (by
      rw [nI_clamp (show i < 2 ^ 31 by omega)]
      intro j hj
      by_cases e : j = i
      · rw [e, pk_us]
      · rw [pk_un e]
        exact h j (by omega))))⟩))
theorem rt_mk0 {post : St2 → Prop} {L M w b : Int32} {a1 a2 a3 a4 a5 a6 a7 a8 a9 a10 a11 : Nat → Int32} {i pt pl : Nat} (hi : i < 8) (hpt : pt < 31) (hpl : pl < 18) (h4 : a4 i = 0) (h5 : a5 i = nI pt) (h6 : a6 i = nI pl)
    (H : post (L, M, w, upd a1 pl (rt_op b (a1 pl) pt), a2, a3, a4, a5, a6, a7, a8, a9, a10, a11)) : wpX_make post (L, M, w, a1, a2, a3, a4, a5, a6, a7, a8, a9, a10, a11) (nI i) b := by
  have h7 : (1 : Int32) <<< (a5 i &&& 31) = nI (2 ^ pt) := by
    rw [h5]
    exact rt_sh1 pt hpt
  unfold wpX_make
  dsimp only
  rw [nI_clamp (show i < 2 ^ 31 by omega)]
  refine ⟨pk_in i 8 hi, nm_r h4 ⟨pk_in i 8 hi, nm_r h7 ⟨pk_in i 8 hi, nm_r h6 (br_t rfl (br_c (fun hb => ?_) (fun hb => ?_)))⟩⟩⟩
  · rw [nI_clamp (show pl < 2 ^ 31 by omega)]
    refine ⟨pk_in pl 18 hpl, pk_in pl 18 hpl, nm_e ?_⟩
    unfold rt_op at H
    rw [if_pos hb] at H
    exact H
  · rw [nI_clamp (show pl < 2 ^ 31 by omega)]
    refine ⟨pk_in pl 18 hpl, pk_in pl 18 hpl, nm_e ?_⟩
    unfold rt_op at H
    rw [if_neg hb] at H
    exact H
theorem rt_mk1 {post : St2 → Prop} {L M w b : Int32} {a1 a2 a3 a4 a5 a6 a7 a8 a9 a10 a11 : Nat → Int32} {i pt pl : Nat} (hi : i < 8) (hpt : pt < 31) (hpl : pl < 18) (h4 : a4 i = 1) (h5 : a5 i = nI pt) (h6 : a6 i = nI pl)
    (H : ∀ b9 : Nat → Int32, (∀ j, j < 18 → b9 j = 0) → post (L, M, w, a1, upd a2 pl (rt_op b (a2 pl) pt), a3, a4, a5, a6, a7, a8, b9, a10, a11)) : wpX_make post (L, M, w, a1, a2, a3, a4, a5, a6, a7, a8, a9, a10, a11) (nI i) b := by
  have h7 : (1 : Int32) <<< (a5 i &&& 31) = nI (2 ^ pt) := by
    rw [h5]
    exact rt_sh1 pt hpt
  unfold wpX_make
  dsimp only
  rw [nI_clamp (show i < 2 ^ 31 by omega)]
  refine ⟨pk_in i 8 hi, nm_r h4 ⟨pk_in i 8 hi, nm_r h7 ⟨pk_in i 8 hi, nm_r h6 (br_f (by decide) (br_t rfl (br_c (fun hb => ?_) (fun hb => ?_))))⟩⟩⟩
  · rw [nI_clamp (show pl < 2 ^ 31 by omega)]
    refine ⟨pk_in pl 18 hpl, pk_in pl 18 hpl, nm_e (rt_149 (fun b9 h9 => ?_))⟩
    have H' := H b9 h9
    unfold rt_op at H'
    rw [if_pos hb] at H'
    exact H'
  · rw [nI_clamp (show pl < 2 ^ 31 by omega)]
    refine ⟨pk_in pl 18 hpl, pk_in pl 18 hpl, nm_e (rt_149 (fun b9 h9 => ?_))⟩
    have H' := H b9 h9
    unfold rt_op at H'
    rw [if_neg hb] at H'
    exact H'
theorem rt_mk2 {post : St2 → Prop} {L M w b : Int32} {a1 a2 a3 a4 a5 a6 a7 a8 a9 a10 a11 : Nat → Int32} {i pt pl : Nat} (hi : i < 8) (hpt : pt < 31) (hpl : pl < 3) (h4 : a4 i = 2) (h5 : a5 i = nI pt) (h6 : a6 i = nI pl)
    (H : ∀ b9 : Nat → Int32, (∀ j, j < 18 → b9 j = 0) → post (L, M, w, a1, a2, upd a3 pl (rt_op b (a3 pl) pt), a4, a5, a6, a7, a8, b9, a10, a11)) : wpX_make post (L, M, w, a1, a2, a3, a4, a5, a6, a7, a8, a9, a10, a11) (nI i) b := by
  have h7 : (1 : Int32) <<< (a5 i &&& 31) = nI (2 ^ pt) := by
    rw [h5]
    exact rt_sh1 pt hpt
  unfold wpX_make
  dsimp only
  rw [nI_clamp (show i < 2 ^ 31 by omega)]
  refine ⟨pk_in i 8 hi, nm_r h4 ⟨pk_in i 8 hi, nm_r h7 ⟨pk_in i 8 hi, nm_r h6 (br_f (by decide) (br_f (by decide) (br_c (fun hb => ?_) (fun hb => ?_))))⟩⟩⟩
  · rw [nI_clamp (show pl < 2 ^ 31 by omega)]
    refine ⟨pk_in pl 3 hpl, pk_in pl 3 hpl, nm_e (rt_149 (fun b9 h9 => ?_))⟩
    have H' := H b9 h9
    unfold rt_op at H'
    rw [if_pos hb] at H'
    exact H'
  · rw [nI_clamp (show pl < 2 ^ 31 by omega)]
    refine ⟨pk_in pl 3 hpl, pk_in pl 3 hpl, nm_e (rt_149 (fun b9 h9 => ?_))⟩
    have H' := H b9 h9
    unfold rt_op at H'
    rw [if_neg hb] at H'
    exact H'
/-- a change made (again): from state c to c + 1 -/
theorem rt_mkF {g h s p : Nat} (hP : rt_P g h s p) {post : St2 → Prop} {L M w : Int32} {c m : Nat} {a9 a10 a11 : Nat → Int32} (hc : c + 1 ≤ m) (hm : m ≤ 4) (ok : rt_ok g h s c a9)
    (H : ∀ b9, rt_ok g h s (c + 1) b9 → post (rt_T g h s p L M (c + 1) m w b9 a10 a11)) : wpX_make post (rt_T g h s p L M c m w a9 a10 a11) (nI (c + 1)) (rt_AF (c + 1)) := by
  obtain ⟨hg, hh, hs, hp, hrs, hgh⟩ := hP
  have l4 : rt_lg rt_SO m (c + 1) = rt_SO (c + 1) := rt_lg_at (by omega) hc
  have l5 : rt_lg (fun i => nI (rt_PA g h p i)) m (c + 1) = nI (rt_PA g h p (c + 1)) := rt_lg_at (f := fun i => nI (rt_PA g h p i)) (by omega) hc
  have l6 : rt_lg (fun i => nI (rt_PL g h s i)) m (c + 1) = nI (rt_PL g h s (c + 1)) := rt_lg_at (f := fun i => nI (rt_PL g h s i)) (by omega) hc
  have hc4 : c = 0 ∨ c = 1 ∨ c = 2 ∨ c = 3 := by omega
  rcases hc4 with e | e | e | e <;> subst e
  · refine rt_mk1 (by omega) (show g < 31 by omega) hh l4 l5 l6 (fun b9 h9 => ?_)
    show post (L, M, w, rt_ent p g 0, upd rt_z h (rt_op 1 (rt_z h) g), rt_rul h s 0, _)
    rw [rt_do]
    exact H b9 (rt_ok0 h9)
  · refine rt_mk2 (by omega) (show h % 3 < 31 by omega) hs l4 l5 l6 (fun b9 h9 => ?_)
    show post (L, M, w, rt_ent p g 1, rt_nes g h 1, upd rt_z s (rt_op 1 (rt_z s) (h % 3)), _)
    rw [rt_do]
    exact H b9 (rt_ok0 h9)
  · refine rt_mk0 (by omega) (show p < 31 by omega) hg l4 l5 l6 ?_
    show post (L, M, w, upd rt_z g (rt_op 1 (rt_z g) p), rt_nes g h 2, rt_rul h s 2, _)
    rw [rt_do]
    exact H a9 (fun j hj => by rw [rt_S23]; exact ok j hj)
  · refine rt_mk1 (by omega) (show g < 31 by omega) hh l4 l5 l6 (fun b9 h9 => ?_)
    show post (L, M, w, rt_ent p g 3, upd (upd rt_z h (nI (2 ^ g))) h (rt_op 0 (upd rt_z h (nI (2 ^ g)) h) g), rt_rul h s 3, _)
    rw [rt_undo h g (by omega)]
    exact H b9 (rt_ok0 h9)
/-- a change undone: from state c + 1 to c -/
theorem rt_mkB {g h s p : Nat} (hP : rt_P g h s p) {post : St2 → Prop} {L M w : Int32} {c m : Nat} {a9 a10 a11 : Nat → Int32} (hc : c + 1 ≤ m) (hm : m ≤ 4) (ok : rt_ok g h s (c + 1) a9)
    (H : ∀ b9, rt_ok g h s c b9 → post (rt_T g h s p L M c m w b9 a10 a11)) : wpX_make post (rt_T g h s p L M (c + 1) m w a9 a10 a11) (nI (c + 1)) (rt_BE (c + 1)) := by
  obtain ⟨hg, hh, hs, hp, hrs, hgh⟩ := hP
  have l4 : rt_lg rt_SO m (c + 1) = rt_SO (c + 1) := rt_lg_at (by omega) hc
  have l5 : rt_lg (fun i => nI (rt_PA g h p i)) m (c + 1) = nI (rt_PA g h p (c + 1)) := rt_lg_at (f := fun i => nI (rt_PA g h p i)) (by omega) hc
  have l6 : rt_lg (fun i => nI (rt_PL g h s i)) m (c + 1) = nI (rt_PL g h s (c + 1)) := rt_lg_at (f := fun i => nI (rt_PL g h s i)) (by omega) hc
  have hc4 : c = 0 ∨ c = 1 ∨ c = 2 ∨ c = 3 := by omega
  rcases hc4 with e | e | e | e <;> subst e
  · refine rt_mk1 (by omega) (show g < 31 by omega) hh l4 l5 l6 (fun b9 h9 => ?_)
    show post (L, M, w, rt_ent p g 0, upd (upd rt_z h (nI (2 ^ g))) h (rt_op 0 (upd rt_z h (nI (2 ^ g)) h) g), rt_rul h s 0, _)
    rw [rt_undo h g (by omega)]
    exact H b9 (rt_ok0 h9)
  · refine rt_mk2 (by omega) (show h % 3 < 31 by omega) hs l4 l5 l6 (fun b9 h9 => ?_)
    show post (L, M, w, rt_ent p g 1, rt_nes g h 1, upd (upd rt_z s (nI (2 ^ (h % 3)))) s (rt_op 0 (upd rt_z s (nI (2 ^ (h % 3))) s) (h % 3)), _)
    rw [rt_undo s (h % 3) (by omega)]
    exact H b9 (rt_ok0 h9)
  · refine rt_mk0 (by omega) (show p < 31 by omega) hg l4 l5 l6 ?_
    show post (L, M, w, upd (upd rt_z g (nI (2 ^ p))) g (rt_op 0 (upd rt_z g (nI (2 ^ p)) g) p), rt_nes g h 2, rt_rul h s 2, _)
    rw [rt_undo g p (by omega)]
    exact H a9 (fun j hj => by rw [← rt_S23]; exact ok j hj)
  · refine rt_mk1 (by omega) (show g < 31 by omega) hh l4 l5 l6 (fun b9 h9 => ?_)
    show post (L, M, w, rt_ent p g 3, upd rt_z h (rt_op 1 (rt_z h) g), rt_rul h s 3, _)
    rw [rt_do]
    exact H b9 (rt_ok0 h9)
theorem rt_r8 {a : Nat} (h : a < 8) : nI a - nI a / 8 * 8 = nI a :=
  (pk_rem (a := a) (d := 8) (by omega) (by omega) (by omega)).trans (by rw [Nat.mod_eq_of_lt h])
theorem rt_ld44 {g h s p : Nat} (hP : rt_P g h s p) {post : St2 → Prop} {w : Int32} {m t : Nat} {a10 a11 : Nat → Int32} (ht : t ≤ m) (hm : m ≤ 4)
    (H : ∀ b9, rt_ok g h s t b9 → post (rt_K g h s p t m w b9 a10 a11)) : ∀ (d c : Nat) (a9 : Nat → Int32), c + d = t → rt_ok g h s c a9 →
      wX_load_44 post (nI t) (d + 1) (nI c) (nI m) w (rt_ent p g c) (rt_nes g h c) (rt_rul h s c) (rt_lg rt_SO m) (rt_lg (fun i => nI (rt_PA g h p i)) m) (rt_lg (fun i => nI (rt_PL g h s i)) m) (rt_lg rt_BE m) (rt_lg rt_AF m) a9 a10 a11 := by
  intro d
  induction d with
  | zero =>
    intro c a9 hd ok
    have e : c = t := by omega
    subst e
    exact pk_le c c (fun _ => H a9 ok) (fun z => absurd z (by omega))
  | succ d ih =>
    intro c a9 hd ok
    refine pk_le t c (fun z => absurd z (by omega)) (fun _ => nm_r (nI_1 c) ?_)
    have l8 : rt_lg rt_AF m (c + 1) = rt_AF (c + 1) := rt_lg_at (by omega) (by omega)
    rw [rt_r8 (show c + 1 < 8 by omega), nI_clamp (show c + 1 < 2 ^ 31 by omega), l8]
    exact ⟨by decide, by decide, pk_in (c + 1) 8 (by omega), rt_mkF hP (by omega) hm ok (fun b9 ok' => ih (c + 1) b9 (by omega) ok')⟩
theorem rt_ld0 {g h s p : Nat} (hP : rt_P g h s p) {post : St2 → Prop} {w : Int32} {m t : Nat} {a10 a11 : Nat → Int32} (ht : t ≤ m) (hm : m ≤ 4)
    (H : ∀ b9, rt_ok g h s t b9 → post (rt_K g h s p t m w b9 a10 a11)) : ∀ (d c : Nat) (a9 : Nat → Int32), c ≤ t + d → c ≤ m → rt_ok g h s c a9 →
      wX_load_0 post (nI t) (d + 1) (nI c) (nI m) w (rt_ent p g c) (rt_nes g h c) (rt_rul h s c) (rt_lg rt_SO m) (rt_lg (fun i => nI (rt_PA g h p i)) m) (rt_lg (fun i => nI (rt_PL g h s i)) m) (rt_lg rt_BE m) (rt_lg rt_AF m) a9 a10 a11 := by
  intro d
  induction d with
  | zero =>
    intro c a9 hd hcm ok
    exact pk_le c t (fun _ => ⟨(t - c) + 1, rt_ld44 hP ht hm H (t - c) c a9 (by omega) ok⟩) (fun z => absurd z (by omega))
  | succ d ih =>
    intro c a9 hd hcm ok
    refine pk_le c t (fun _ => ⟨(t - c) + 1, rt_ld44 hP ht hm H (t - c) c a9 (by omega) ok⟩) (fun z => ?_)
    obtain ⟨e, rfl⟩ : ∃ e, c = e + 1 := ⟨c - 1, by omega⟩
    have l7 : rt_lg rt_BE m (e + 1) = rt_BE (e + 1) := rt_lg_at (by omega) (by omega)
    rw [rt_r8 (show e + 1 < 8 by omega), nI_clamp (show e + 1 < 2 ^ 31 by omega), l7]
    exact ⟨by decide, by decide, pk_in (e + 1) 8 (by omega), rt_mkB hP (by omega) hm ok (fun b9 ok' => nm_r (nI_pred e) (ih e b9 (by omega) (by omega) ok'))⟩
/-- load: from any listed state to any other -/
theorem rt_load {g h s p : Nat} (hP : rt_P g h s p) {post : St2 → Prop} {w : Int32} {c m t : Nat} {a9 a10 a11 : Nat → Int32} (ht : t ≤ m) (hm : m ≤ 4) (hc : c ≤ m) (ok : rt_ok g h s c a9)
    (H : ∀ b9, rt_ok g h s t b9 → post (rt_K g h s p t m w b9 a10 a11)) : wpX_load post (rt_K g h s p c m w a9 a10 a11) (nI t) :=
  ⟨m + 1, rt_ld0 hP ht hm H m c a9 (by omega) hc ok⟩
theorem rt_boolB (i : Nat) : vp_nar .boolean (rt_BE i) = rt_BE i := by
  unfold rt_BE
  split <;> rfl
theorem rt_boolA (i : Nat) : vp_nar .boolean (rt_AF i) = rt_AF i := by
  unfold rt_AF
  split <;> rfl
/-- noteChange: the next change is listed and made -/
theorem rt_note {g h s p : Nat} (hP : rt_P g h s p) {post : St2 → Prop} {w so pa pl be af : Int32} {m : Nat} {a9 a10 a11 : Nat → Int32} (hm : m + 1 ≤ 4) (ok : rt_ok g h s m a9)
    (e1 : so = rt_SO (m + 1)) (e2 : pa = nI (rt_PA g h p (m + 1))) (e3 : pl = nI (rt_PL g h s (m + 1))) (e4 : be = rt_BE (m + 1)) (e5 : af = rt_AF (m + 1))
    (H : ∀ b9, rt_ok g h s (m + 1) b9 → post (rt_K g h s p (m + 1) (m + 1) w b9 a10 a11)) : wpX_noteChange post (rt_K g h s p m m w a9 a10 a11) so pa pl be af := by
  have hP' := hP
  obtain ⟨hg, hh, hs, hp, hrs, hgh⟩ := hP'
  have v1 : so.toInt8.toInt32 = rt_SO (m + 1) := by
    rw [e1]
    unfold rt_SO
    split
    · rfl
    · split <;> rfl
  have v2 : pa.toInt8.toInt32 = nI (rt_PA g h p (m + 1)) := by
    rw [e2]
    apply rt_byte
    unfold rt_PA
    split
    · omega
    · split <;> omega
  have v3 : pl.toInt8.toInt32 = nI (rt_PL g h s (m + 1)) := by
    rw [e3]
    apply rt_byte
    unfold rt_PL
    split
    · omega
    · split <;> omega
  have v4 : vp_nar .boolean be = rt_BE (m + 1) := by rw [e4, rt_boolB]
  have v5 : vp_nar .boolean af = rt_AF (m + 1) := by rw [e5, rt_boolA]
  unfold wpX_noteChange
  dsimp only
  rw [v1, v2, v3, v4, v5, e5]
  refine nm_r (nI_1 m) ⟨by decide, nm_r (rt_r8 (by omega)) ?_⟩
  rw [nI_clamp (show m + 1 < 2 ^ 31 by omega)]
  refine ⟨pk_in (m + 1) 8 (by omega), nm_e ⟨pk_in (m + 1) 8 (by omega), nm_e ⟨pk_in (m + 1) 8 (by omega), nm_e ⟨pk_in (m + 1) 8 (by omega), nm_e ⟨pk_in (m + 1) 8 (by omega), nm_e ?_⟩⟩⟩⟩⟩
  exact rt_mkF hP (c := m) (m := m + 1) (by omega) hm ok (fun b9 ok' => H b9 ok')
end
section
/-! sourcesTo, membersOf (gen03.py prints the two copies) -/
theorem rt_by {post : Int32 → Prop} {L M w : Int32} {a1 a2 a3 a4 a5 a6 a7 a8 a9 a10 a11 : Nat → Int32} {x : Nat} (hx : x < 18) (H : post (a3 (x % 3) <<< (nI (x / 3 * 3) &&& 31))) :
    wpX_byRules post (L, M, w, a1, a2, a3, a4, a5, a6, a7, a8, a9, a10, a11) (nI x) := by
  have e1 : nI x - nI x / 3 * 3 = nI (x % 3) := pk_rem (a := x) (d := 3) (by omega) (by omega) (by omega)
  have e2 : nI x / 3 * 3 = nI (x / 3 * 3) := by
    rw [show nI x / 3 = nI (x / 3) from pk_div (a := x) (d := 3) (by omega) (by omega) (by omega)]
    exact pk_mul (x / 3) 3
  unfold wpX_byRules
  dsimp only
  rw [e1, e2, nI_clamp (show x % 3 < 2 ^ 31 by omega)]
  exact ⟨by decide, pk_in (x % 3) 3 (by omega), by decide, H⟩
/-- the groups that give to y straight away: none, or the one next -/
theorem rt_Neq {g h s p c y : Nat} (hP : rt_P g h s p) (hy : y < 18) : rt_nes g h c y ||| (rt_rul h s c (y % 3) <<< (nI (y / 3 * 3) &&& 31)) = if rt_nx g h s c y < 18 then nI (2 ^ rt_nx g h s c y) else 0 := by
  obtain ⟨hg, hh, hs, hp, hrs, hgh⟩ := hP
  by_cases e : y = h ∧ 1 ≤ c ∧ c ≤ 3
  · have en : rt_nx g h s c y = g := if_pos e
    have er : rt_rul h s c (y % 3) = 0 := by
      unfold rt_rul
      split
      · rw [pk_un (by rw [e.1]; exact hrs)]
        rfl
      · rfl
    have es : rt_nes g h c y = nI (2 ^ g) := by
      unfold rt_nes
      rw [if_pos e.2, e.1, pk_us]
    rw [en, er, es, if_pos hg, rt_0shl _ (by omega), rt_or0]
  · have es : rt_nes g h c y = 0 := by
      unfold rt_nes
      split
      · rw [pk_un (fun z => e ⟨z, by assumption⟩)]
        rfl
      · rfl
    rw [es, rt_0or]
    by_cases e2 : y % 3 = s ∧ 2 ≤ c
    · have en : rt_nx g h s c y = 3 * (y / 3) + h % 3 := by
        unfold rt_nx
        rw [if_neg e, if_pos e2]
      have er : rt_rul h s c (y % 3) = nI (2 ^ (h % 3)) := by
        unfold rt_rul
        rw [if_pos e2.2, e2.1, pk_us]
      rw [en, er, if_pos (by omega), rt_shl (by omega) (by
        rw [← Nat.pow_add]
        exact Nat.pow_lt_pow_right (by decide) (by omega)), Nat.mul_comm]
    · have en : rt_nx g h s c y = 18 := by
        unfold rt_nx
        rw [if_neg e, if_neg e2]
      have er : rt_rul h s c (y % 3) = 0 := by
        unfold rt_rul
        split
        · rw [pk_un (fun z => e2 ⟨z, by assumption⟩)]
          rfl
        · rfl
      rw [en, er, if_neg (by omega), rt_0shl _ (by omega)]
theorem rt_pbit {z i : Nat} (h : ¬ z = i) : (2 ^ z).testBit i = false := by
  rw [Nat.testBit_two_pow]
  exact decide_eq_false h
theorem rt_pself (z : Nat) : (2 ^ z).testBit z = true := Nat.testBit_two_pow_self
theorem rt_plt {z : Nat} (h : z < 18) : 2 ^ z < 2 ^ 18 := Nat.pow_lt_pow_right (by decide) h
/-- the members of a group in state c -/
def rt_mem (g h s p c x : Nat) : Nat := if (rt_S g h s c x).testBit g = true ∧ 3 ≤ c then 2 ^ p else 0

theorem rt_123a {post : Int32 → St2 → Prop} {J : Int32 → Int32 → (Nat → Int32) → (Nat → Int32) → (Nat → Int32) → (Nat → Int32) → (Nat → Int32) → (Nat → Int32) → (Nat → Int32) → (Nat → Int32) → (Nat → Int32) → (Nat → Int32) → (Nat → Int32) → Prop} {x1 x2 L M w : Int32} {a1 a2 a3 a4 a5 a6 a7 a8 a9 a10 a11 : Nat → Int32} (H : J x2 w a1 a2 a3 a4 a5 a6 a7 a8 a9 a10 a11) :
    ∃ n, wX_sourcesTo_123 post J x1 x2 0 L M n 0 w a1 a2 a3 a4 a5 a6 a7 a8 a9 a10 a11 :=
  pk_loop (σ := Unit) (fun n i _ => wX_sourcesTo_123 post J x1 x2 0 L M n (nI i) w a1 a2 a3 a4 a5 a6 a7 a8 a9 a10 a11) (fun _ _ => True) 18 0 () (by omega) trivial
    (fun n s h => pk_le 18 18 (fun _ => H) (fun z => absurd z (by omega)))
    (fun n i s hi h hw => pk_le 18 i (fun z => absurd z (by omega)) (fun _ => br_t (rt_bit0 (S := 0) (by omega) (by omega) (Nat.zero_testBit i)) (nm_r (nI_1 i) (hw () trivial))))
theorem rt_123b {post : Int32 → St2 → Prop} {J : Int32 → Int32 → (Nat → Int32) → (Nat → Int32) → (Nat → Int32) → (Nat → Int32) → (Nat → Int32) → (Nat → Int32) → (Nat → Int32) → (Nat → Int32) → (Nat → Int32) → (Nat → Int32) → (Nat → Int32) → Prop} {x1 x2 L M : Int32} {a1 a2 a3 a4 a5 a6 a7 a8 a9 a10 a11 : Nat → Int32} {z : Nat} (hz : z < 18) (H : J x2 1 a1 a2 a3 a4 a5 a6 a7 a8 a9 (upd a10 0 (nI z)) a11) :
    ∃ n, wX_sourcesTo_123 post J x1 x2 (nI (2 ^ z)) L M n 0 0 a1 a2 a3 a4 a5 a6 a7 a8 a9 a10 a11 := by
  have hz2 := rt_plt hz
  refine pk_loop (σ := Int32 × (Nat → Int32)) (fun n i s => wX_sourcesTo_123 post J x1 x2 (nI (2 ^ z)) L M n (nI i) s.1 a1 a2 a3 a4 a5 a6 a7 a8 a9 s.2 a11) (fun i s => (i ≤ z → s = (0, a10)) ∧ (z < i → s = (1, upd a10 0 (nI z)))) 18 0 (0, a10) (by omega) ⟨fun _ => rfl, fun h => absurd h (by omega)⟩ ?_ ?_
  · intro n s h
    rw [h.2 hz]
    exact pk_le 18 18 (fun _ => H) (fun z => absurd z (by omega))
  · intro n i s hi h hw
    refine pk_le 18 i (fun z => absurd z (by omega)) (fun _ => ?_)
    by_cases e : z = i
    · subst e
      refine br_f (by rw [rt_bit1 (by omega) (by omega) (rt_pself z)]; decide) ?_
      rw [h.1 (Nat.le_refl z)]
      refine ⟨pk_in 0 18 (by omega), nm_r (by rw [rt_byte z hz]; rfl) (nm_r (show (0 : Int32) + 1 = 1 from rfl) (nm_r (nI_1 z) (hw (1, upd a10 0 (nI z)) ⟨fun q => absurd q (by omega), fun _ => rfl⟩)))⟩
    · refine br_t (rt_bit0 (by omega) (by omega) (rt_pbit e)) (nm_r (nI_1 i) (hw s ⟨fun q => h.1 (by omega), fun q => h.2 (by omega)⟩))
theorem rt_41e {g h s p : Nat} {post : Int32 → St2 → Prop} {c m x n : Nat} {a9 a10 a11 : Nat → Int32} (hx : x < 18) (ok : rt_ok g h s c a9)
    (H : ∀ b9 b10, rt_ok g h s c b9 → post (nI (rt_S g h s c x)) (rt_K g h s p c m 0 b9 b10 a11)) :
    wX_sourcesTo_41 post (nI x) (nI c) (nI m) (n + 1) (nI (rt_S g h s c x)) 0 (rt_ent p g c) (rt_nes g h c) (rt_rul h s c) (rt_lg rt_SO m) (rt_lg (fun i => nI (rt_PA g h p i)) m) (rt_lg (fun i => nI (rt_PL g h s i)) m) (rt_lg rt_BE m) (rt_lg rt_AF m) a9 a10 a11 := by
  refine pk_le 0 0 (fun _ => ⟨pk_in x 18 hx, nm_e ?_⟩) (fun z => absurd z (by omega))
  refine H _ a10 (fun j hj => ?_)
  rw [nI_clamp (show x < 2 ^ 31 by omega)]
  by_cases e : j = x
  · rw [e, pk_us]
    exact Or.inr (rt_or (rt_S g h s c x) 262144)
  · rw [pk_un e]
    exact ok j hj
theorem rt_41 {g h s p : Nat} (hP : rt_P g h s p) {post : Int32 → St2 → Prop} {c m x : Nat} {a9 a11 : Nat → Int32} (hx : x < 18) (ok : rt_ok g h s c a9)
    (H : ∀ b9 b10, rt_ok g h s c b9 → post (nI (rt_S g h s c x)) (rt_K g h s p c m 0 b9 b10 a11)) : ∀ (n y sn : Nat) (a10 : Nat → Int32), y < 18 → rt_mu h s y < n → a10 0 = nI y → sn < 2 ^ 18 → (∀ j, sn.testBit j = true → rt_mu h s y ≤ rt_mu h s j) → sn ||| 2 ^ y = sn → sn ||| rt_S g h s c y = rt_S g h s c x →
    wX_sourcesTo_41 post (nI x) (nI c) (nI m) (n + 1) (nI sn) 1 (rt_ent p g c) (rt_nes g h c) (rt_rul h s c) (rt_lg rt_SO m) (rt_lg (fun i => nI (rt_PA g h p i)) m) (rt_lg (fun i => nI (rt_PL g h s i)) m) (rt_lg rt_BE m) (rt_lg rt_AF m) a9 a10 a11 := by
  intro n
  induction n with
  | zero => intro y sn a10 hy hn; omega
  | succ n ih =>
    intro y sn a10 hy hn h0 hsn hmu hin hor
    refine pk_le 1 0 (fun z => absurd z (by omega)) (fun _ => nm_r (show (1 : Int32) - 1 = nI 0 from rfl) ⟨pk_in 0 18 (by omega), nm_r (show a10 (nI 0).toNatClampNeg = nI y from h0) ⟨pk_in y 18 hy, ?_⟩⟩)
    rw [nI_clamp (show y < 2 ^ 31 by omega)]
    rcases ok y hy with ky | ky
    · refine nm_r ky (br_t (by decide) ⟨pk_in y 18 hy, rt_by hy ?_⟩)
      rw [rt_Neq hP hy]
      by_cases e : rt_nx g h s c y < 18
      · have hl := rt_mu_lt hP e
        have ht : sn.testBit (rt_nx g h s c y) = false := by
          cases q : sn.testBit (rt_nx g h s c y) with
          | false => rfl
          | true => exact absurd (hmu _ q) (by omega)
        rw [if_pos e]
        refine nm_r (rt_fr (by omega) ht) (nm_r (rt_or _ _) (rt_123b e ?_))
        have hz2 := rt_plt e
        refine ih (rt_nx g h s c y) (sn ||| 2 ^ rt_nx g h s c y) _ e (by omega) pk_us (Nat.or_lt_two_pow hsn hz2) (fun j hj => ?_) ?_ ?_
        · rw [Nat.testBit_or, Nat.testBit_two_pow] at hj
          by_cases q : rt_nx g h s c y = j
          · rw [← q]
            exact Nat.le_refl _
          · have := hmu j (by simpa [q] using hj)
            omega
        · rw [Nat.or_assoc, Nat.or_self]
        · have hS := rt_S_eq (c := c) hP (rt_nx g h s c y)
          have hSy := rt_S_eq (c := c) hP y
          rw [if_pos e] at hSy
          have h2 : 2 ^ rt_nx g h s c y ||| rt_S g h s c (rt_nx g h s c y) = rt_S g h s c (rt_nx g h s c y) := by
            split at hS
            · rw [hS, ← Nat.or_assoc, Nat.or_self]
            · rw [hS, Nat.or_self]
          rw [Nat.or_assoc, h2, ← hor, hSy, ← Nat.or_assoc, hin]
      · rw [if_neg e]
        have hSy := rt_S_eq (c := c) hP y
        rw [if_neg e] at hSy
        rw [hSy, hin] at hor
        rw [hor]
        refine nm_r (rt_0and _) (nm_r (rt_or0 _) (rt_123a ?_))
        exact rt_41e hx ok H
    · have hSl := rt_S_lt (g := g) (h := h) (s := s) (c := c) hy
      have hb : (rt_S g h s c y ||| 262144).testBit 18 = true := by
        rw [Nat.testBit_or, show (262144 : Nat) = 2 ^ 18 from rfl, rt_pself, Bool.or_true]
      have hlt : rt_S g h s c y ||| 262144 < 2 ^ 19 := Nat.or_lt_two_pow (by omega) (by decide)
      refine nm_r ky (br_f ?_ (nm_r ?_ (rt_41e hx ok H)))
      · have q := rt_bit1 (j := 18) (show rt_S g h s c y ||| 262144 < 2 ^ 31 by omega) (by omega) hb
        intro q2
        exact absurd (q.symm.trans q2) (by decide)
      · rw [rt_mask hSl, rt_or, hor]
/-- sourcesTo -/
theorem rt_srcTo {g h s p : Nat} (hP : rt_P g h s p) {post : Int32 → St2 → Prop} {c m x : Nat} {w : Int32} {a9 a10 a11 : Nat → Int32} (hx : x < 18) (ok : rt_ok g h s c a9)
    (H : ∀ w' b9 b10, rt_ok g h s c b9 → post (nI (rt_S g h s c x)) (rt_K g h s p c m w' b9 b10 a11)) : wpX_sourcesTo post (rt_K g h s p c m w a9 a10 a11) (nI x) := by
  unfold wpX_sourcesTo
  dsimp only
  rw [nI_clamp (show x < 2 ^ 31 by omega)]
  have hx2 := rt_plt hx
  have hSl := rt_S_lt (g := g) (h := h) (s := s) (c := c) hx
  refine ⟨pk_in x 18 hx, ?_⟩
  rcases ok x hx with ky | ky
  · rw [ky]
    refine br_t (by decide) (nm_r (rt_sh1 x (by omega)) (nm_r (by rw [rt_byte x hx]) ⟨5, ?_⟩))
    refine rt_41 hP hx ok (fun b9 b10 => H 0 b9 b10) 4 x (2 ^ x) _ hx (rt_mu_le h s x) pk_us hx2 (fun j hj => ?_) (Nat.or_self _) ?_
    · rw [Nat.testBit_two_pow, decide_eq_true_iff] at hj
      rw [hj]
      exact Nat.le_refl _
    · have hSy := rt_S_eq (c := c) hP x
      split at hSy
      · rw [hSy, ← Nat.or_assoc, Nat.or_self]
      · rw [hSy, Nat.or_self]
  · rw [ky]
    have hb : (rt_S g h s c x ||| 262144).testBit 18 = true := by
      rw [Nat.testBit_or, show (262144 : Nat) = 2 ^ 18 from rfl, rt_pself, Bool.or_true]
    have hlt : rt_S g h s c x ||| 262144 < 2 ^ 19 := Nat.or_lt_two_pow (by omega) (by decide)
    refine br_f ?_ ⟨pk_in x 18 hx, ?_⟩
    · have q := rt_bit1 (j := 18) (show rt_S g h s c x ||| 262144 < 2 ^ 31 by omega) (by omega) hb
      intro q2
      exact absurd (q.symm.trans q2) (by decide)
    · rw [rt_mask hSl]
      exact H w a9 a10 ok
theorem rt_11 {g h s p : Nat} (hP : rt_P g h s p) {post : Int32 → St2 → Prop} {c m x : Nat} {w : Int32} {a9 a10 a11 : Nat → Int32} (hx : x < 18) (H : post (nI (rt_mem g h s p c x)) (rt_K g h s p c m w a9 a10 a11)) :
    ∃ n, wX_membersOf_11 post (nI (rt_S g h s c x)) (nI c) (nI m) w (rt_ent p g c) (rt_nes g h c) (rt_rul h s c) (rt_lg rt_SO m) (rt_lg (fun i => nI (rt_PA g h p i)) m) (rt_lg (fun i => nI (rt_PL g h s i)) m) (rt_lg rt_BE m) (rt_lg rt_AF m) a9 a10 a11 n 0 0 := by
  have hSl := rt_S_lt (g := g) (h := h) (s := s) (c := c) hx
  obtain ⟨hg, hh, hs, hp, hrs, hgh⟩ := hP
  refine pk_loop (σ := Int32) (fun n i acc => wX_membersOf_11 post (nI (rt_S g h s c x)) (nI c) (nI m) w (rt_ent p g c) (rt_nes g h c) (rt_rul h s c) (rt_lg rt_SO m) (rt_lg (fun i => nI (rt_PA g h p i)) m) (rt_lg (fun i => nI (rt_PL g h s i)) m) (rt_lg rt_BE m) (rt_lg rt_AF m) a9 a10 a11 n acc (nI i)) (fun i acc => acc = if g < i then nI (rt_mem g h s p c x) else 0) 18 0 0 (by omega) rfl ?_ ?_
  · intro n acc ha
    rw [if_pos hg] at ha
    rw [ha]
    exact pk_le 18 18 (fun _ => H) (fun z => absurd z (by omega))
  · intro n i acc hi ha hw
    refine pk_le 18 i (fun z => absurd z (by omega)) (fun _ => ?_)
    cases q : (rt_S g h s c x).testBit i with
    | false =>
      refine br_t (rt_bit0 (by omega) (by omega) q) (nm_r (nI_1 i) (hw acc ?_))
      by_cases e : g = i
      · rw [ha, if_neg (by omega), if_pos (by omega)]
        have : rt_mem g h s p c x = 0 := by
          rw [← e] at q
          unfold rt_mem
          rw [q]
          exact if_neg (fun z => absurd z.1 (by decide))
        rw [this, nI_0]
      · rw [ha]
        by_cases e2 : g < i
        · rw [if_pos e2, if_pos (by omega)]
        · rw [if_neg e2, if_neg (by omega)]
    | true =>
      refine br_f (by rw [rt_bit1 (by omega) (by omega) q]; decide) ⟨pk_in i 18 hi, nm_e (nm_r (nI_1 i) (hw _ ?_))⟩
      rw [nI_clamp (show i < 2 ^ 31 by omega), ha]
      by_cases e : g = i
      · rw [if_neg (by omega), if_pos (by omega), rt_0or, ← e]
        unfold rt_ent rt_mem
        rw [← e] at q
        by_cases e3 : 3 ≤ c
        · rw [if_pos e3, if_pos ⟨q, e3⟩, pk_us]
        · rw [if_neg e3, if_neg (fun z => e3 z.2)]
          rfl
      · have : rt_ent p g c i = 0 := by
          unfold rt_ent
          split
          · rw [pk_un (fun z => e z.symm)]
            rfl
          · rfl
        rw [this, rt_or0]
        by_cases e2 : g < i
        · rw [if_pos e2, if_pos (by omega)]
        · rw [if_neg e2, if_neg (by omega)]
/-- membersOf -/
theorem rt_mems {g h s p : Nat} (hP : rt_P g h s p) {post : Int32 → St2 → Prop} {c m x : Nat} {w : Int32} {a9 a10 a11 : Nat → Int32} (hx : x < 18) (ok : rt_ok g h s c a9)
    (H : ∀ w' b9 b10, rt_ok g h s c b9 → post (nI (rt_mem g h s p c x)) (rt_K g h s p c m w' b9 b10 a11)) : wpX_membersOf post (rt_K g h s p c m w a9 a10 a11) (nI x) := by
  unfold wpX_membersOf
  dsimp only
  exact rt_srcTo hP hx ok (fun w' b9 b10 ok' => rt_11 hP hx (H w' b9 b10 ok'))

theorem rt_123a_2 {post : Int32 → St2 → Prop} {J : Int32 → Int32 → (Nat → Int32) → (Nat → Int32) → (Nat → Int32) → (Nat → Int32) → (Nat → Int32) → (Nat → Int32) → (Nat → Int32) → (Nat → Int32) → (Nat → Int32) → (Nat → Int32) → (Nat → Int32) → Prop} {x1 x2 L M w : Int32} {a1 a2 a3 a4 a5 a6 a7 a8 a9 a10 a11 : Nat → Int32} (H : J x2 w a1 a2 a3 a4 a5 a6 a7 a8 a9 a10 a11) :
    ∃ n, wX_sourcesTo_2_123 post J x1 x2 0 L M n 0 w a1 a2 a3 a4 a5 a6 a7 a8 a9 a10 a11 :=
  pk_loop (σ := Unit) (fun n i _ => wX_sourcesTo_2_123 post J x1 x2 0 L M n (nI i) w a1 a2 a3 a4 a5 a6 a7 a8 a9 a10 a11) (fun _ _ => True) 18 0 () (by omega) trivial
    (fun n s h => pk_le 18 18 (fun _ => H) (fun z => absurd z (by omega)))
    (fun n i s hi h hw => pk_le 18 i (fun z => absurd z (by omega)) (fun _ => br_t (rt_bit0 (S := 0) (by omega) (by omega) (Nat.zero_testBit i)) (nm_r (nI_1 i) (hw () trivial))))
theorem rt_123b_2 {post : Int32 → St2 → Prop} {J : Int32 → Int32 → (Nat → Int32) → (Nat → Int32) → (Nat → Int32) → (Nat → Int32) → (Nat → Int32) → (Nat → Int32) → (Nat → Int32) → (Nat → Int32) → (Nat → Int32) → (Nat → Int32) → (Nat → Int32) → Prop} {x1 x2 L M : Int32} {a1 a2 a3 a4 a5 a6 a7 a8 a9 a10 a11 : Nat → Int32} {z : Nat} (hz : z < 18) (H : J x2 1 a1 a2 a3 a4 a5 a6 a7 a8 a9 (upd a10 0 (nI z)) a11) :
    ∃ n, wX_sourcesTo_2_123 post J x1 x2 (nI (2 ^ z)) L M n 0 0 a1 a2 a3 a4 a5 a6 a7 a8 a9 a10 a11 := by
  have hz2 := rt_plt hz
  refine pk_loop (σ := Int32 × (Nat → Int32)) (fun n i s => wX_sourcesTo_2_123 post J x1 x2 (nI (2 ^ z)) L M n (nI i) s.1 a1 a2 a3 a4 a5 a6 a7 a8 a9 s.2 a11) (fun i s => (i ≤ z → s = (0, a10)) ∧ (z < i → s = (1, upd a10 0 (nI z)))) 18 0 (0, a10) (by omega) ⟨fun _ => rfl, fun h => absurd h (by omega)⟩ ?_ ?_
  · intro n s h
    rw [h.2 hz]
    exact pk_le 18 18 (fun _ => H) (fun z => absurd z (by omega))
  · intro n i s hi h hw
    refine pk_le 18 i (fun z => absurd z (by omega)) (fun _ => ?_)
    by_cases e : z = i
    · subst e
      refine br_f (by rw [rt_bit1 (by omega) (by omega) (rt_pself z)]; decide) ?_
      rw [h.1 (Nat.le_refl z)]
      refine ⟨pk_in 0 18 (by omega), nm_r (by rw [rt_byte z hz]; rfl) (nm_r (show (0 : Int32) + 1 = 1 from rfl) (nm_r (nI_1 z) (hw (1, upd a10 0 (nI z)) ⟨fun q => absurd q (by omega), fun _ => rfl⟩)))⟩
    · refine br_t (rt_bit0 (by omega) (by omega) (rt_pbit e)) (nm_r (nI_1 i) (hw s ⟨fun q => h.1 (by omega), fun q => h.2 (by omega)⟩))
theorem rt_41e_2 {g h s p : Nat} {post : Int32 → St2 → Prop} {c m x n : Nat} {a9 a10 a11 : Nat → Int32} (hx : x < 18) (ok : rt_ok g h s c a9)
    (H : ∀ b9 b10, rt_ok g h s c b9 → post (nI (rt_S g h s c x)) (rt_K g h s p c m 0 b9 b10 a11)) :
    wX_sourcesTo_2_41 post (nI x) (nI c) (nI m) (n + 1) (nI (rt_S g h s c x)) 0 (rt_ent p g c) (rt_nes g h c) (rt_rul h s c) (rt_lg rt_SO m) (rt_lg (fun i => nI (rt_PA g h p i)) m) (rt_lg (fun i => nI (rt_PL g h s i)) m) (rt_lg rt_BE m) (rt_lg rt_AF m) a9 a10 a11 := by
  refine pk_le 0 0 (fun _ => ⟨pk_in x 18 hx, nm_e ?_⟩) (fun z => absurd z (by omega))
  refine H _ a10 (fun j hj => ?_)
  rw [nI_clamp (show x < 2 ^ 31 by omega)]
  by_cases e : j = x
  · rw [e, pk_us]
    exact Or.inr (rt_or (rt_S g h s c x) 262144)
  · rw [pk_un e]
    exact ok j hj
theorem rt_41_2 {g h s p : Nat} (hP : rt_P g h s p) {post : Int32 → St2 → Prop} {c m x : Nat} {a9 a11 : Nat → Int32} (hx : x < 18) (ok : rt_ok g h s c a9)
    (H : ∀ b9 b10, rt_ok g h s c b9 → post (nI (rt_S g h s c x)) (rt_K g h s p c m 0 b9 b10 a11)) : ∀ (n y sn : Nat) (a10 : Nat → Int32), y < 18 → rt_mu h s y < n → a10 0 = nI y → sn < 2 ^ 18 → (∀ j, sn.testBit j = true → rt_mu h s y ≤ rt_mu h s j) → sn ||| 2 ^ y = sn → sn ||| rt_S g h s c y = rt_S g h s c x →
    wX_sourcesTo_2_41 post (nI x) (nI c) (nI m) (n + 1) (nI sn) 1 (rt_ent p g c) (rt_nes g h c) (rt_rul h s c) (rt_lg rt_SO m) (rt_lg (fun i => nI (rt_PA g h p i)) m) (rt_lg (fun i => nI (rt_PL g h s i)) m) (rt_lg rt_BE m) (rt_lg rt_AF m) a9 a10 a11 := by
  intro n
  induction n with
  | zero => intro y sn a10 hy hn; omega
  | succ n ih =>
    intro y sn a10 hy hn h0 hsn hmu hin hor
    refine pk_le 1 0 (fun z => absurd z (by omega)) (fun _ => nm_r (show (1 : Int32) - 1 = nI 0 from rfl) ⟨pk_in 0 18 (by omega), nm_r (show a10 (nI 0).toNatClampNeg = nI y from h0) ⟨pk_in y 18 hy, ?_⟩⟩)
    rw [nI_clamp (show y < 2 ^ 31 by omega)]
    rcases ok y hy with ky | ky
    · refine nm_r ky (br_t (by decide) ⟨pk_in y 18 hy, rt_by hy ?_⟩)
      rw [rt_Neq hP hy]
      by_cases e : rt_nx g h s c y < 18
      · have hl := rt_mu_lt hP e
        have ht : sn.testBit (rt_nx g h s c y) = false := by
          cases q : sn.testBit (rt_nx g h s c y) with
          | false => rfl
          | true => exact absurd (hmu _ q) (by omega)
        rw [if_pos e]
        refine nm_r (rt_fr (by omega) ht) (nm_r (rt_or _ _) (rt_123b_2 e ?_))
        have hz2 := rt_plt e
        refine ih (rt_nx g h s c y) (sn ||| 2 ^ rt_nx g h s c y) _ e (by omega) pk_us (Nat.or_lt_two_pow hsn hz2) (fun j hj => ?_) ?_ ?_
        · rw [Nat.testBit_or, Nat.testBit_two_pow] at hj
          by_cases q : rt_nx g h s c y = j
          · rw [← q]
            exact Nat.le_refl _
          · have := hmu j (by simpa [q] using hj)
            omega
        · rw [Nat.or_assoc, Nat.or_self]
        · have hS := rt_S_eq (c := c) hP (rt_nx g h s c y)
          have hSy := rt_S_eq (c := c) hP y
          rw [if_pos e] at hSy
          have h2 : 2 ^ rt_nx g h s c y ||| rt_S g h s c (rt_nx g h s c y) = rt_S g h s c (rt_nx g h s c y) := by
            split at hS
            · rw [hS, ← Nat.or_assoc, Nat.or_self]
            · rw [hS, Nat.or_self]
          rw [Nat.or_assoc, h2, ← hor, hSy, ← Nat.or_assoc, hin]
      · rw [if_neg e]
        have hSy := rt_S_eq (c := c) hP y
        rw [if_neg e] at hSy
        rw [hSy, hin] at hor
        rw [hor]
        refine nm_r (rt_0and _) (nm_r (rt_or0 _) (rt_123a_2 ?_))
        exact rt_41e_2 hx ok H
    · have hSl := rt_S_lt (g := g) (h := h) (s := s) (c := c) hy
      have hb : (rt_S g h s c y ||| 262144).testBit 18 = true := by
        rw [Nat.testBit_or, show (262144 : Nat) = 2 ^ 18 from rfl, rt_pself, Bool.or_true]
      have hlt : rt_S g h s c y ||| 262144 < 2 ^ 19 := Nat.or_lt_two_pow (by omega) (by decide)
      refine nm_r ky (br_f ?_ (nm_r ?_ (rt_41e_2 hx ok H)))
      · have q := rt_bit1 (j := 18) (show rt_S g h s c y ||| 262144 < 2 ^ 31 by omega) (by omega) hb
        intro q2
        exact absurd (q.symm.trans q2) (by decide)
      · rw [rt_mask hSl, rt_or, hor]
/-- sourcesTo -/
theorem rt_srcTo_2 {g h s p : Nat} (hP : rt_P g h s p) {post : Int32 → St2 → Prop} {c m x : Nat} {w : Int32} {a9 a10 a11 : Nat → Int32} (hx : x < 18) (ok : rt_ok g h s c a9)
    (H : ∀ w' b9 b10, rt_ok g h s c b9 → post (nI (rt_S g h s c x)) (rt_K g h s p c m w' b9 b10 a11)) : wpX_sourcesTo_2 post (rt_K g h s p c m w a9 a10 a11) (nI x) := by
  unfold wpX_sourcesTo_2
  dsimp only
  rw [nI_clamp (show x < 2 ^ 31 by omega)]
  have hx2 := rt_plt hx
  have hSl := rt_S_lt (g := g) (h := h) (s := s) (c := c) hx
  refine ⟨pk_in x 18 hx, ?_⟩
  rcases ok x hx with ky | ky
  · rw [ky]
    refine br_t (by decide) (nm_r (rt_sh1 x (by omega)) (nm_r (by rw [rt_byte x hx]) ⟨5, ?_⟩))
    refine rt_41_2 hP hx ok (fun b9 b10 => H 0 b9 b10) 4 x (2 ^ x) _ hx (rt_mu_le h s x) pk_us hx2 (fun j hj => ?_) (Nat.or_self _) ?_
    · rw [Nat.testBit_two_pow, decide_eq_true_iff] at hj
      rw [hj]
      exact Nat.le_refl _
    · have hSy := rt_S_eq (c := c) hP x
      split at hSy
      · rw [hSy, ← Nat.or_assoc, Nat.or_self]
      · rw [hSy, Nat.or_self]
  · rw [ky]
    have hb : (rt_S g h s c x ||| 262144).testBit 18 = true := by
      rw [Nat.testBit_or, show (262144 : Nat) = 2 ^ 18 from rfl, rt_pself, Bool.or_true]
    have hlt : rt_S g h s c x ||| 262144 < 2 ^ 19 := Nat.or_lt_two_pow (by omega) (by decide)
    refine br_f ?_ ⟨pk_in x 18 hx, ?_⟩
    · have q := rt_bit1 (j := 18) (show rt_S g h s c x ||| 262144 < 2 ^ 31 by omega) (by omega) hb
      intro q2
      exact absurd (q.symm.trans q2) (by decide)
    · rw [rt_mask hSl]
      exact H w a9 a10 ok
theorem rt_11_2 {g h s p : Nat} (hP : rt_P g h s p) {post : Int32 → St2 → Prop} {c m x : Nat} {w : Int32} {a9 a10 a11 : Nat → Int32} (hx : x < 18) (H : post (nI (rt_mem g h s p c x)) (rt_K g h s p c m w a9 a10 a11)) :
    ∃ n, wX_membersOf_2_11 post (nI (rt_S g h s c x)) (nI c) (nI m) w (rt_ent p g c) (rt_nes g h c) (rt_rul h s c) (rt_lg rt_SO m) (rt_lg (fun i => nI (rt_PA g h p i)) m) (rt_lg (fun i => nI (rt_PL g h s i)) m) (rt_lg rt_BE m) (rt_lg rt_AF m) a9 a10 a11 n 0 0 := by
  have hSl := rt_S_lt (g := g) (h := h) (s := s) (c := c) hx
  obtain ⟨hg, hh, hs, hp, hrs, hgh⟩ := hP
  refine pk_loop (σ := Int32) (fun n i acc => wX_membersOf_2_11 post (nI (rt_S g h s c x)) (nI c) (nI m) w (rt_ent p g c) (rt_nes g h c) (rt_rul h s c) (rt_lg rt_SO m) (rt_lg (fun i => nI (rt_PA g h p i)) m) (rt_lg (fun i => nI (rt_PL g h s i)) m) (rt_lg rt_BE m) (rt_lg rt_AF m) a9 a10 a11 n acc (nI i)) (fun i acc => acc = if g < i then nI (rt_mem g h s p c x) else 0) 18 0 0 (by omega) rfl ?_ ?_
  · intro n acc ha
    rw [if_pos hg] at ha
    rw [ha]
    exact pk_le 18 18 (fun _ => H) (fun z => absurd z (by omega))
  · intro n i acc hi ha hw
    refine pk_le 18 i (fun z => absurd z (by omega)) (fun _ => ?_)
    cases q : (rt_S g h s c x).testBit i with
    | false =>
      refine br_t (rt_bit0 (by omega) (by omega) q) (nm_r (nI_1 i) (hw acc ?_))
      by_cases e : g = i
      · rw [ha, if_neg (by omega), if_pos (by omega)]
        have : rt_mem g h s p c x = 0 := by
          rw [← e] at q
          unfold rt_mem
          rw [q]
          exact if_neg (fun z => absurd z.1 (by decide))
        rw [this, nI_0]
      · rw [ha]
        by_cases e2 : g < i
        · rw [if_pos e2, if_pos (by omega)]
        · rw [if_neg e2, if_neg (by omega)]
    | true =>
      refine br_f (by rw [rt_bit1 (by omega) (by omega) q]; decide) ⟨pk_in i 18 hi, nm_e (nm_r (nI_1 i) (hw _ ?_))⟩
      rw [nI_clamp (show i < 2 ^ 31 by omega), ha]
      by_cases e : g = i
      · rw [if_neg (by omega), if_pos (by omega), rt_0or, ← e]
        unfold rt_ent rt_mem
        rw [← e] at q
        by_cases e3 : 3 ≤ c
        · rw [if_pos e3, if_pos ⟨q, e3⟩, pk_us]
        · rw [if_neg e3, if_neg (fun z => e3 z.2)]
          rfl
      · have : rt_ent p g c i = 0 := by
          unfold rt_ent
          split
          · rw [pk_un (fun z => e z.symm)]
            rfl
          · rfl
        rw [this, rt_or0]
        by_cases e2 : g < i
        · rw [if_pos e2, if_pos (by omega)]
        · rw [if_neg e2, if_neg (by omega)]
/-- membersOf -/
theorem rt_mems_2 {g h s p : Nat} (hP : rt_P g h s p) {post : Int32 → St2 → Prop} {c m x : Nat} {w : Int32} {a9 a10 a11 : Nat → Int32} (hx : x < 18) (ok : rt_ok g h s c a9)
    (H : ∀ w' b9 b10, rt_ok g h s c b9 → post (nI (rt_mem g h s p c x)) (rt_K g h s p c m w' b9 b10 a11)) : wpX_membersOf_2 post (rt_K g h s p c m w a9 a10 a11) (nI x) := by
  unfold wpX_membersOf_2
  dsimp only
  exact rt_srcTo_2 hP hx ok (fun w' b9 b10 ok' => rt_11_2 hP hx (H w' b9 b10 ok'))
end
section
/-! the public methods at the law's calls -/
theorem rt_isG {post : Int32 → Prop} {u : St2} {x : Nat} (hx : x < 18) (H : post 1) : wpX_isGroup post u (nI x) := by
  obtain ⟨f1, f2, f3, a1, a2, a3, a4, a5, a6, a7, a8, a9, a10, a11⟩ := u
  exact pk_lt x 0 (fun z => absurd z (by omega)) (fun _ => pk_le 18 x (fun z => absurd z (by omega)) (fun _ => H))
theorem rt_isP {post : Int32 → Prop} {u : St2} {x : Nat} (hx : x < 6) (H : post 1) : wpX_isPerson post u (nI x) := by
  obtain ⟨f1, f2, f3, a1, a2, a3, a4, a5, a6, a7, a8, a9, a10, a11⟩ := u
  exact pk_lt x 0 (fun z => absurd z (by omega)) (fun _ => pk_lt 5 x (fun z => absurd z (by omega)) (fun _ => H))
theorem rt_isS {post : Int32 → Prop} {g h s p c m : Nat} {w : Int32} {a9 a10 a11 : Nat → Int32} {x : Nat} (hx : x ≤ m) (hm : m ≤ 4) (H : post 1) : wpX_isState post (rt_K g h s p c m w a9 a10 a11) (nI x) :=
  pk_lt x 0 (fun z => absurd z (by omega)) (fun _ => pk_lt m x (fun z => absurd z (by omega)) (fun _ => H))
theorem rt_old : ∀ m, m < 5 → ∀ x, x < 5 → ¬ nI x ≤ nI m - 8 := by decide +kernel
theorem rt_isK {post : Int32 → Prop} {g h s p c m : Nat} {w : Int32} {a9 a10 a11 : Nat → Int32} {x : Nat} (hx : x ≤ m) (hm : m ≤ 4) (H : post 1) : wpX_isKept post (rt_K g h s p c m w a9 a10 a11) (nI x) := by
  unfold wpX_isKept
  dsimp only
  exact rt_isS hx hm (br_f (by decide) (br_f (rt_old m (by omega) x (by omega)) H))
theorem rt_nest {g h s p : Nat} (hP : rt_P g h s p) {post : Int32 → St2 → Prop} {c m : Nat} {w : Int32} {a9 a10 a11 : Nat → Int32} (hm : m = 0 ∨ m = 3) (hc : c ≤ m) (ok : rt_ok g h s c a9)
    (H : ∀ b9, rt_ok g h s (m + 1) b9 → post (nI (m + 1)) (rt_K g h s p (m + 1) (m + 1) w b9 a10 a11)) : wpX_nest post (rt_K g h s p c m w a9 a10 a11) (nI g) (nI h) (rt_AF (m + 1)) := by
  have hP' := hP
  obtain ⟨hg, hh, hs, hp, hrs, hgh⟩ := hP'
  have hg2 := rt_plt hg
  unfold wpX_nest
  dsimp only
  refine rt_isG hg (br_f (by decide) (rt_isG hh (br_f (by decide) (rt_load hP (Nat.le_refl m) (by omega) hc ok (fun b9 ok' => ⟨pk_in h 18 hh, ?_⟩)))))
  rw [nI_clamp (show h < 2 ^ 31 by omega)]
  rcases hm with e | e <;> subst e
  · refine br_t (rt_bit0 (S := 0) (by omega) (by omega) (Nat.zero_testBit g)) ?_
    unfold wX_nest_48
    exact rt_note hP (by omega) ok' rfl rfl rfl rfl rfl (fun b9' ok'' => H b9' ok'')
  · have e : rt_nes g h 3 h = nI (2 ^ g) := pk_us
    have hb : ¬ (rt_nes g h 3 h >>> (nI g &&& 31)) &&& 1 = 0 := by
      rw [e, rt_bit1 (by omega) (by omega) (rt_pself g)]
      decide
    refine br_f hb ?_
    unfold wX_nest_48
    exact rt_note hP (by omega) ok' rfl rfl rfl rfl rfl (fun b9' ok'' => H b9' ok'')
theorem rt_rule {g h s p : Nat} (hP : rt_P g h s p) {post : Int32 → St2 → Prop} {w : Int32} {a9 a10 a11 : Nat → Int32} (ok : rt_ok g h s 1 a9)
    (H : ∀ b9, rt_ok g h s 2 b9 → post (nI 2) (rt_K g h s p 2 2 w b9 a10 a11)) : wpX_rule post (rt_K g h s p 1 1 w a9 a10 a11) (nI (h % 3)) (nI s) 1 := by
  have hP' := hP
  obtain ⟨hg, hh, hs, hp, hrs, hgh⟩ := hP'
  have hr : h % 3 < 3 := Nat.mod_lt _ (by decide)
  unfold wpX_rule
  dsimp only
  refine pk_lt (h % 3) 0 (fun z => absurd z (by omega)) (fun _ => pk_lt 2 (h % 3) (fun z => absurd z (by omega)) (fun _ => pk_lt s 0 (fun z => absurd z (by omega)) (fun _ => pk_lt 2 s (fun z => absurd z (by omega)) (fun _ => pk_eq (h % 3) s (fun z => absurd z hrs) (fun _ => rt_load hP (t := 1) (by omega) (by omega) (by omega) ok (fun b9 ok' => ⟨pk_in s 3 hs, ?_⟩))))))
  rw [nI_clamp (show s < 2 ^ 31 by omega)]
  refine br_t (rt_bit0 (S := 0) (by omega) (by omega) (Nat.zero_testBit _)) ?_
  unfold wX_rule_55
  exact rt_note hP (m := 1) (by omega) ok' rfl rfl rfl rfl rfl (fun b9' ok'' => H b9' ok'')
theorem rt_enter {g h s p : Nat} (hP : rt_P g h s p) {post : Int32 → St2 → Prop} {w : Int32} {a9 a10 a11 : Nat → Int32} (ok : rt_ok g h s 2 a9)
    (H : ∀ b9, rt_ok g h s 3 b9 → post (nI 3) (rt_K g h s p 3 3 w b9 a10 a11)) : wpX_enter post (rt_K g h s p 2 2 w a9 a10 a11) (nI p) (nI g) 1 := by
  have hP' := hP
  obtain ⟨hg, hh, hs, hp, hrs, hgh⟩ := hP'
  unfold wpX_enter
  dsimp only
  refine rt_isP hp (br_f (by decide) (rt_isG hg (br_f (by decide) (rt_load hP (t := 2) (by omega) (by omega) (by omega) ok (fun b9 ok' => ⟨pk_in g 18 hg, ?_⟩)))))
  rw [nI_clamp (show g < 2 ^ 31 by omega)]
  refine br_t (rt_bit0 (S := 0) (by omega) (by omega) (Nat.zero_testBit _)) ?_
  unfold wX_enter_48
  exact rt_note hP (m := 2) (by omega) ok' rfl rfl rfl rfl rfl (fun b9' ok'' => H b9' ok'')
/-- the groups below i whose sources hold g, in state 3 -/
def rt_gr (g h s : Nat) : Nat → Nat
  | 0 => 0
  | i + 1 => if (rt_S g h s 3 i).testBit g = true then rt_gr g h s i ||| 2 ^ i else rt_gr g h s i
/-- how many they are -/
def rt_cn (g h s : Nat) : Nat → Nat
  | 0 => 0
  | i + 1 => if (rt_S g h s 3 i).testBit g = true then rt_cn g h s i + 1 else rt_cn g h s i
theorem rt_mem1 {g h s p x : Nat} (q : (rt_S g h s 3 x).testBit g = true) : rt_mem g h s p 3 x = 2 ^ p := if_pos ⟨q, by omega⟩
theorem rt_mem0 {g h s p c x : Nat} (q : (rt_S g h s c x).testBit g = false) : rt_mem g h s p c x = 0 := if_neg (fun z => absurd (q.symm.trans z.1) (by decide))
theorem rt_memL {g h s p c x : Nat} (q : c < 3) : rt_mem g h s p c x = 0 := if_neg (fun z => absurd z.2 (by omega))
theorem rt_groups {g h s p : Nat} (hP : rt_P g h s p) {post : Int32 → St2 → Prop} {c m : Nat} {w : Int32} {a9 a10 a11 : Nat → Int32} (h3 : 3 ≤ m) (hm : m ≤ 4) (hc : c ≤ m) (ok : rt_ok g h s c a9)
    (H : ∀ w' b9 b10, rt_ok g h s 3 b9 → post (nI (rt_gr g h s 18)) (rt_K g h s p 3 m w' b9 b10 a11)) : wpX_groups post (rt_K g h s p c m w a9 a10 a11) 3 (nI p) := by
  have hP' := hP
  obtain ⟨hg, hh, hs, hp, hrs, hgh⟩ := hP'
  have hp2 : 2 ^ p < 2 ^ 18 := rt_plt (by omega)
  unfold wpX_groups
  dsimp only
  refine rt_isP hp (br_f (by decide) (rt_isS (x := 3) h3 hm (br_f (by decide) (rt_isK (x := 3) h3 hm (br_f (by decide) (rt_load hP (t := 3) h3 hm hc ok (fun b9 ok' => ?_)))))))
  refine pk_loop (σ := Int32 × Int32 × (Nat → Int32) × (Nat → Int32)) (fun n i t => wX_groups_39 post (nI p) n t.1 (nI i) (nI 3) (nI m) t.2.1 (rt_ent p g 3) (rt_nes g h 3) (rt_rul h s 3) (rt_lg rt_SO m) (rt_lg (fun i => nI (rt_PA g h p i)) m) (rt_lg (fun i => nI (rt_PL g h s i)) m) (rt_lg rt_BE m) (rt_lg rt_AF m) t.2.2.1 t.2.2.2 a11) (fun i t => t.1 = nI (rt_gr g h s i) ∧ rt_ok g h s 3 t.2.2.1) 18 0 (0, w, b9, a10) (by omega) ⟨rfl, ok'⟩ ?_ ?_
  · intro n t ht
    obtain ⟨t1, t2, t3, t4⟩ := t
    obtain ⟨e, ok2⟩ := ht
    dsimp only at e ok2
    subst e
    exact pk_le 18 18 (fun _ => H t2 t3 t4 ok2) (fun z => absurd z (by omega))
  · intro n i t hi ht hw
    obtain ⟨t1, t2, t3, t4⟩ := t
    obtain ⟨e, ok2⟩ := ht
    dsimp only at e ok2
    subst e
    refine pk_le 18 i (fun z => absurd z (by omega)) (fun _ => rt_mems hP hi ok2 (fun w' b9' b10' ok3 => ?_))
    dsimp only
    cases q : (rt_S g h s 3 i).testBit g with
    | false =>
      rw [rt_mem0 q]
      refine br_t (rt_bit0 (S := 0) (by omega) (by omega) (Nat.zero_testBit _)) (nm_r (nI_1 i) (hw (nI (rt_gr g h s i), w', b9', b10') ⟨?_, ok3⟩))
      show nI (rt_gr g h s i) = nI (if (rt_S g h s 3 i).testBit g = true then rt_gr g h s i ||| 2 ^ i else rt_gr g h s i)
      rw [q, if_neg (by decide)]
    | true =>
      rw [rt_mem1 q]
      refine br_f (by rw [rt_bit1 (by omega) (by omega) (rt_pself p)]; decide) (nm_r (by rw [rt_sh1 i (by omega), rt_or]) (nm_r (nI_1 i) (hw (nI (rt_gr g h s i ||| 2 ^ i), w', b9', b10') ⟨?_, ok3⟩)))
      show nI (rt_gr g h s i ||| 2 ^ i) = nI (if (rt_S g h s 3 i).testBit g = true then rt_gr g h s i ||| 2 ^ i else rt_gr g h s i)
      rw [q, if_pos rfl]
theorem rt_sources {g h s p : Nat} (hP : rt_P g h s p) {post : Int32 → St2 → Prop} {c m x : Nat} {w : Int32} {a9 a10 a11 : Nat → Int32} (hx : x < 18) (h3 : 3 ≤ m) (hm : m ≤ 4) (hc : c ≤ m) (ok : rt_ok g h s c a9)
    (H : ∀ w' b9 b10, rt_ok g h s 3 b9 → post (nI (rt_S g h s 3 x)) (rt_K g h s p 3 m w' b9 b10 a11)) : wpX_sources post (rt_K g h s p c m w a9 a10 a11) 3 (nI x) := by
  unfold wpX_sources
  dsimp only
  exact rt_isG hx (br_f (by decide) (rt_isS (x := 3) h3 hm (br_f (by decide) (rt_isK (x := 3) h3 hm (br_f (by decide) (rt_load hP (t := 3) h3 hm hc ok (fun b9 ok' => rt_srcTo hP hx ok' (fun w' b9' b10' ok'' => H w' b9' b10' ok''))))))))
theorem rt_members {g h s p : Nat} (hP : rt_P g h s p) {post : Int32 → St2 → Prop} {c m x : Nat} {w : Int32} {a9 a10 a11 : Nat → Int32} (hx : x < 18) (h3 : 3 ≤ m) (hm : m ≤ 4) (hc : c ≤ m) (ok : rt_ok g h s c a9)
    (H : ∀ w' b9 b10, rt_ok g h s 3 b9 → post (nI (rt_mem g h s p 3 x)) (rt_K g h s p 3 m w' b9 b10 a11)) : wpX_members post (rt_K g h s p c m w a9 a10 a11) 3 (nI x) := by
  unfold wpX_members
  dsimp only
  exact rt_isG hx (br_f (by decide) (rt_isS (x := 3) h3 hm (br_f (by decide) (rt_isK (x := 3) h3 hm (br_f (by decide) (rt_load hP (t := 3) h3 hm hc ok (fun b9 ok' => rt_mems hP hx ok' (fun w' b9' b10' ok'' => H w' b9' b10' ok''))))))))
theorem rt_check {g h s p : Nat} (hP : rt_P g h s p) {post : Int32 → St2 → Prop} {c m x : Nat} {w : Int32} {a9 a10 a11 : Nat → Int32} (hx : x < 18) (hm : m = 4) (hc : c ≤ m) (ok : rt_ok g h s c a9)
    (H : ∀ w' b9 b10, rt_ok g h s 4 b9 → post ((nI (rt_mem g h s p 4 x) >>> (nI p &&& 31)) &&& 1) (rt_K g h s p 4 m w' b9 b10 a11)) : wpX_check post (rt_K g h s p c m w a9 a10 a11) 4 (nI p) (nI x) := by
  have hP' := hP
  obtain ⟨hg, hh, hs, hp, hrs, hgh⟩ := hP'
  unfold wpX_check
  dsimp only
  exact rt_isP hp (br_f (by decide) (rt_isG hx (br_f (by decide) (rt_isS (x := 4) (by omega) (by omega) (br_f (by decide) (rt_isK (x := 4) (by omega) (by omega) (br_f (by decide) (rt_load hP (t := 4) (by omega) (by omega) hc ok (fun b9 ok' => rt_mems hP hx ok' (fun w' b9' b10' ok'' => H w' b9' b10' ok''))))))))))
theorem rt_95 {post : Int32 → St2 → Prop} {J : Int32 → Int32 → Int32 → Int32 → Int32 → (Nat → Int32) → (Nat → Int32) → (Nat → Int32) → (Nat → Int32) → (Nat → Int32) → (Nat → Int32) → (Nat → Int32) → (Nat → Int32) → (Nat → Int32) → (Nat → Int32) → (Nat → Int32) → Prop} {L M w : Int32} {a1 a2 a3 a4 a5 a6 a7 a8 a9 a10 a11 : Nat → Int32} {i k mm v p : Nat} (hi : i < 18) (h0 : a11 i = 0) (hp : p < 6) (hm : mm = 0 ∧ v = 0 ∨ mm = 2 ^ p ∧ v = 1)
    (H : J (nI (k + v)) (nI (i + 1)) L M w a1 a2 a3 a4 a5 a6 a7 a8 a9 a10 a11) : ∃ n, wX_changed_95 post J (nI i) (nI mm) L M w a1 a2 a3 a4 a5 a6 a7 a8 a9 a10 a11 n (nI k) 0 := by
  have hp2 : 2 ^ p < 2 ^ 18 := rt_plt (by omega)
  refine pk_loop (σ := Int32) (fun n j t => wX_changed_95 post J (nI i) (nI mm) L M w a1 a2 a3 a4 a5 a6 a7 a8 a9 a10 a11 n t (nI j)) (fun j t => t = nI (if p < j then k + v else k)) 6 0 (nI k) (by omega) rfl ?_ ?_
  · intro n t ht
    rw [if_pos hp] at ht
    subst ht
    exact pk_le 6 6 (fun _ => nm_r (nI_1 i) H) (fun z => absurd z (by omega))
  · intro n j t hj ht hw
    refine pk_le 6 j (fun z => absurd z (by omega)) (fun _ => ⟨pk_in i 18 hi, nm_e (nm_r (nI_1 j) (hw _ ?_))⟩)
    rw [nI_clamp (show i < 2 ^ 31 by omega), h0, rt_xor0, ht]
    rcases hm with ⟨e1, e2⟩ | ⟨e1, e2⟩
    · subst e1 e2
      rw [rt_bit0 (S := 0) (by omega) (by omega) (Nat.zero_testBit _), ← nI_0, nI_add]
      split <;> split <;> rfl
    · subst e1 e2
      by_cases e : p = j
      · subst e
        rw [rt_bit1 (by omega) (by omega) (rt_pself p), if_neg (by omega), if_pos (by omega), nI_1]
      · rw [rt_bit0 (by omega) (by omega) (rt_pbit e), ← nI_0, nI_add]
        by_cases e2 : p < j
        · rw [if_pos e2, if_pos (by omega)]
        · rw [if_neg e2, if_neg (by omega)]
          rfl
theorem rt_changed {g h s p : Nat} (hP : rt_P g h s p) {post : Int32 → St2 → Prop} {c m : Nat} {w : Int32} {a9 a10 a11 : Nat → Int32} (h3 : 3 ≤ m) (hm : m ≤ 4) (hc : c ≤ m) (ok : rt_ok g h s c a9)
    (H : ∀ w' b9 b10 b11, rt_ok g h s 3 b9 → post (nI (rt_cn g h s 18)) (rt_K g h s p 3 m w' b9 b10 b11)) : wpX_changed post (rt_K g h s p c m w a9 a10 a11) 2 3 := by
  have hP' := hP
  obtain ⟨hg, hh, hs, hp, hrs, hgh⟩ := hP'
  unfold wpX_changed
  dsimp only
  refine rt_isS (x := 2) (by omega) hm (br_f (by decide) (rt_isS (x := 3) h3 hm (br_f (by decide) (rt_isK (x := 2) (by omega) hm (br_f (by decide) (rt_isK (x := 3) h3 hm (br_f (by decide) (rt_load hP (t := 2) (by omega) hm hc ok (fun b9 ok' => ?_)))))))))
  refine pk_loop (σ := Int32 × (Nat → Int32) × (Nat → Int32) × (Nat → Int32)) (fun n i t => wX_changed_44 post 3 n (nI i) (nI 2) (nI m) t.1 (rt_ent p g 2) (rt_nes g h 2) (rt_rul h s 2) (rt_lg rt_SO m) (rt_lg (fun i => nI (rt_PA g h p i)) m) (rt_lg (fun i => nI (rt_PL g h s i)) m) (rt_lg rt_BE m) (rt_lg rt_AF m) t.2.1 t.2.2.1 t.2.2.2) (fun i t => (∀ j, j < i → t.2.2.2 j = 0) ∧ rt_ok g h s 2 t.2.1) 18 0 (w, b9, a10, a11) (by omega) ⟨fun j hj => absurd hj (by omega), ok'⟩ ?_ ?_
  · intro n t ht
    obtain ⟨t1, t2, t3, t4⟩ := t
    obtain ⟨hz, ok2⟩ := ht
    dsimp only at hz ok2
    refine pk_le 18 18 (fun _ => rt_load hP (t := 3) (c := 2) h3 hm (by omega) ok2 (fun b9' ok3 => ?_)) (fun z => absurd z (by omega))
    refine pk_loop (σ := Int32 × Int32 × (Nat → Int32) × (Nat → Int32)) (fun n i t => wX_changed_77 post n t.1 (nI i) (nI 3) (nI m) t.2.1 (rt_ent p g 3) (rt_nes g h 3) (rt_rul h s 3) (rt_lg rt_SO m) (rt_lg (fun i => nI (rt_PA g h p i)) m) (rt_lg (fun i => nI (rt_PL g h s i)) m) (rt_lg rt_BE m) (rt_lg rt_AF m) t.2.2.1 t.2.2.2 t4) (fun i t => t.1 = nI (rt_cn g h s i) ∧ rt_ok g h s 3 t.2.2.1) 18 0 (0, t1, b9', t3) (by omega) ⟨rfl, ok3⟩ ?_ ?_
    · intro n v hv
      obtain ⟨v1, v2, v3, v4⟩ := v
      obtain ⟨e, ok4⟩ := hv
      dsimp only at e ok4
      subst e
      exact pk_le 18 18 (fun _ => H v2 v3 v4 t4 ok4) (fun z => absurd z (by omega))
    · intro n i v hi hv hw
      obtain ⟨v1, v2, v3, v4⟩ := v
      obtain ⟨e, ok4⟩ := hv
      dsimp only at e ok4
      subst e
      refine pk_le 18 i (fun z => absurd z (by omega)) (fun _ => rt_mems hP hi ok4 (fun w' c9 c10 ok5 => ?_))
      refine rt_95 (p := p) (v := if (rt_S g h s 3 i).testBit g = true then 1 else 0) hi (hz i hi) hp ?_ ?_
      · cases q : (rt_S g h s 3 i).testBit g with
        | false => exact Or.inl ⟨rt_mem0 q, rfl⟩
        | true => exact Or.inr ⟨rt_mem1 q, rfl⟩
      · refine hw (_, w', c9, c10) ⟨?_, ok5⟩
        show nI _ = nI (if (rt_S g h s 3 i).testBit g = true then rt_cn g h s i + 1 else rt_cn g h s i)
        split <;> rfl
  · intro n i t hi ht hw
    obtain ⟨t1, t2, t3, t4⟩ := t
    obtain ⟨hz, ok2⟩ := ht
    dsimp only at hz ok2
    refine pk_le 18 i (fun z => absurd z (by omega)) (fun _ => rt_mems_2 hP hi ok2 (fun w' c9 c10 ok5 => ⟨pk_in i 18 hi, nm_e (nm_r (nI_1 i) (hw (w', c9, c10, _) ⟨?_, ok5⟩))⟩))
    rw [nI_clamp (show i < 2 ^ 31 by omega), rt_memL (by omega), nI_0]
    intro j hj
    show upd t4 i 0 j = 0
    by_cases e : j = i
    · rw [e, pk_us]
    · rw [pk_un e]
      exact hz j (by omega)
/-- one look of since at a state in which the person isn't there -/
theorem rt_55s {g h s p : Nat} (hP : rt_P g h s p) {post : Int32 → St2 → Prop} {x c i n : Nat} {w : Int32} {a9 a10 a11 : Nat → Int32} (hx : x < 18) (hc : c ≤ 4) (hi : i < 3) (ok : rt_ok g h s c a9)
    (H : ∀ w' b9 b10, rt_ok g h s i b9 → wX_since_55 post (nI p) (nI x) n (nI (i + 1)) (nI i) (nI 4) w' (rt_ent p g i) (rt_nes g h i) (rt_rul h s i) (rt_lg rt_SO 4) (rt_lg (fun i => nI (rt_PA g h p i)) 4) (rt_lg (fun i => nI (rt_PL g h s i)) 4) (rt_lg rt_BE 4) (rt_lg rt_AF 4) b9 b10 a11) :
    wX_since_55 post (nI p) (nI x) (n + 1) (nI i) (nI c) (nI 4) w (rt_ent p g c) (rt_nes g h c) (rt_rul h s c) (rt_lg rt_SO 4) (rt_lg (fun i => nI (rt_PA g h p i)) 4) (rt_lg (fun i => nI (rt_PL g h s i)) 4) (rt_lg rt_BE 4) (rt_lg rt_AF 4) a9 a10 a11 := by
  have hp : p < 6 := hP.2.2.2.1
  refine pk_lt 4 i (fun z => absurd z (by omega)) (fun _ => rt_load hP (t := i) (by omega) (by omega) hc ok (fun b9 ok' => rt_mems hP hx ok' (fun w' c9 c10 ok5 => ?_)))
  rw [rt_memL hi]
  exact br_t (rt_bit0 (S := 0) (by omega) (by omega) (Nat.zero_testBit _)) (nm_r (nI_1 i) (H w' c9 c10 ok5))
theorem rt_since {g h s p : Nat} (hP : rt_P g h s p) {post : Int32 → St2 → Prop} {x c : Nat} {w : Int32} {a9 a10 a11 : Nat → Int32} (hx : x < 18) (hc : c ≤ 4) (ok : rt_ok g h s c a9) (hin : (rt_S g h s 3 x).testBit g = true)
    (H : ∀ w' b9 b10, rt_ok g h s 3 b9 → post 3 (rt_K g h s p 3 4 w' b9 b10 a11)) : wpX_since post (rt_K g h s p c 4 w a9 a10 a11) (nI p) (nI x) 0 := by
  have hp : p < 6 := hP.2.2.2.1
  have hp2 : 2 ^ p < 2 ^ 18 := rt_plt (by omega)
  unfold wpX_since
  dsimp only
  refine rt_isP hp (br_f (by decide) (rt_isG hx (br_f (by decide) (rt_isS (x := 0) (by omega) (by omega) (br_f (by decide) (nm_e (br_t (by decide) ⟨4, ?_⟩)))))))
  refine rt_55s hP (i := 0) hx hc (by omega) ok (fun w1 b9 b10 ok1 => rt_55s hP (i := 1) hx (by omega) (by omega) ok1 (fun w2 c9 c10 ok2 => rt_55s hP (i := 2) hx (by omega) (by omega) ok2 (fun w3 d9 d10 ok3 => ?_)))
  refine pk_lt 4 3 (fun z => absurd z (by omega)) (fun _ => rt_load hP (t := 3) (c := 2) (by omega) (by omega) (by omega) ok3 (fun e9 ok4 => rt_mems hP hx ok4 (fun w' f9 f10 ok5 => ?_)))
  rw [rt_mem1 hin]
  exact br_f (by rw [rt_bit1 (by omega) (by omega) (rt_pself p)]; decide) (H w' f9 f10 ok5)
end
section
/-! the law -/
def rt_more (g h s : Nat) : Nat := if g = 3 * (g / 3) + h % 3 then 2 ^ (3 * (g / 3) + s) else 0
def rt_beh (g h s : Nat) : Nat := if g = 3 * (g / 3) + s then 2 ^ (3 * (g / 3) + h % 3) else 0
def rt_fb (g h s : Nat) : Bool := (h % 3 == s) || ((g / 3 == h / 3) || ((rt_gr g h s 18 == (2 ^ g ||| 2 ^ h ||| 2 ^ (3 * (h / 3) + s) ||| rt_more g h s)) && ((rt_S g h s 3 (3 * (h / 3) + s) == (2 ^ g ||| 2 ^ h ||| 2 ^ (3 * (h / 3) + s) ||| rt_beh g h s)) &&
    ((rt_cn g h s 18 == (if rt_more g h s = 0 then 3 else 4)) && ((!(rt_S g h s 4 (3 * (h / 3) + s)).testBit g) && (rt_S g h s 3 (3 * (h / 3) + s)).testBit g)))))
theorem rt_fbT : ∀ g, g < 18 → ∀ h, h < 18 → ∀ s, s < 3 → rt_fb g h s = true := by decide +kernel
theorem rt_F (g : Nat) (hg : g < 18) (h : Nat) (hh : h < 18) (s : Nat) (hs : s < 3) (h1 : h % 3 ≠ s) (h2 : g / 3 ≠ h / 3) :
    rt_gr g h s 18 = 2 ^ g ||| 2 ^ h ||| 2 ^ (3 * (h / 3) + s) ||| rt_more g h s ∧ rt_S g h s 3 (3 * (h / 3) + s) = 2 ^ g ||| 2 ^ h ||| 2 ^ (3 * (h / 3) + s) ||| rt_beh g h s ∧
    rt_cn g h s 18 = (if rt_more g h s = 0 then 3 else 4) ∧ (rt_S g h s 4 (3 * (h / 3) + s)).testBit g = false ∧ (rt_S g h s 3 (3 * (h / 3) + s)).testBit g = true := by
  have q := rt_fbT g hg h hh s hs
  unfold rt_fb at q
  rw [beq_false_of_ne h1, beq_false_of_ne h2, Bool.false_or, Bool.false_or, Bool.and_eq_true, Bool.and_eq_true, Bool.and_eq_true, Bool.and_eq_true] at q
  obtain ⟨q1, q2, q3, q4, q5⟩ := q
  exact ⟨eq_of_beq q1, eq_of_beq q2, eq_of_beq q3, by rw [Bool.not_eq_true'] at q4; exact q4, q5⟩
theorem rt_284 {g h s p : Nat} (hP : rt_P g h s p) {post : Int32 → St0 → Prop} {mc ms kc ks : Nat} {w z : Int32} {a9 a10 a11 : Nat → Int32} (ok : rt_ok g h s 3 a9) (hp1 : post 1 ()) :
    wL_lawOf_284 post mc ms (nI p) (nI g) (nI h) (nI (3 * (h / 3) + s)) z z kc ks (nI 3) (nI 3) w (rt_ent p g 3) (rt_nes g h 3) (rt_rul h s 3) (rt_lg rt_SO 3) (rt_lg (fun i => nI (rt_PA g h p i)) 3) (rt_lg (fun i => nI (rt_PL g h s i)) 3) (rt_lg rt_BE 3) (rt_lg rt_AF 3) a9 a10 a11 := by
  have hP' := hP
  obtain ⟨hg, hh, hs, hp, hrs, hgh⟩ := hP'
  have hk : 3 * (h / 3) + s < 18 := by omega
  obtain ⟨f1, f2, f3, f4, f5⟩ := rt_F g hg h hh s hs hrs hgh
  unfold wL_lawOf_284
  refine br_t rfl (rt_nest hP (m := 3) (c := 3) (Or.inr rfl) (by omega) ok (fun b9 ok1 => br_t rfl (rt_check hP (m := 4) (c := 4) hk rfl (by omega) ok1 (fun w2 c9 c10 ok2 => ?_))))
  refine br_t (by rw [rt_mem0 f4]; exact rt_bit0 (S := 0) (by omega) (by omega) (Nat.zero_testBit _)) (rt_since hP (c := 4) hk (by omega) ok2 f5 (fun w3 d9 d10 ok3 => br_t rfl (rt_members hP (m := 4) (c := 3) hk (by omega) (by omega) (by omega) ok3 (fun w4 e9 e10 ok4 => ?_))))
  refine br_t ?_ hp1
  rw [rt_mem1 f5, rt_sh1 p (by omega)]
theorem rt_205 {g h s p : Nat} (hP : rt_P g h s p) {post : Int32 → St0 → Prop} {mc ms kc ks : Nat} {w : Int32} {a9 a10 a11 : Nat → Int32} (ok : rt_ok g h s 3 a9) (hp1 : post 1 ()) :
    wL_lawOf_205 post mc ms (nI p) (nI g) (nI h) (nI (3 * (h / 3) + s)) (nI (rt_more g h s)) (nI (rt_beh g h s)) kc ks (nI 3) (nI 3) w (rt_ent p g 3) (rt_nes g h 3) (rt_rul h s 3) (rt_lg rt_SO 3) (rt_lg (fun i => nI (rt_PA g h p i)) 3) (rt_lg (fun i => nI (rt_PL g h s i)) 3) (rt_lg rt_BE 3) (rt_lg rt_AF 3) a9 a10 a11 := by
  have hP' := hP
  obtain ⟨hg, hh, hs, hp, hrs, hgh⟩ := hP'
  have hk : 3 * (h / 3) + s < 18 := by omega
  obtain ⟨f1, f2, f3, f4, f5⟩ := rt_F g hg h hh s hs hrs hgh
  unfold wL_lawOf_205
  rw [rt_sh1 g (by omega), rt_sh1 h (by omega), rt_sh1 _ (show 3 * (h / 3) + s < 31 by omega), rt_or, rt_or, rt_or, rt_or]
  refine rt_groups hP (c := 3) (m := 3) (by omega) (by omega) (by omega) ok (fun w1 b9 b10 ok1 => br_t (by rw [f1]) (rt_sources hP (c := 3) (m := 3) hk (by omega) (by omega) (by omega) ok1 (fun w2 c9 c10 ok2 => br_t (by rw [f2]) (rt_changed hP (c := 3) (m := 3) (by omega) (by omega) (by omega) ok2 (fun w3 d9 d10 d11 ok3 => ?_)))))
  have hml : rt_more g h s < 2 ^ 18 := by
    unfold rt_more
    split
    · exact rt_plt (by omega)
    · omega
  refine pk_le (rt_more g h s) 0 (fun z => ?_) (fun z => ?_)
  · rw [f3, if_pos (by omega)]
    exact rt_284 hP ok3 hp1
  · rw [f3, if_neg (by omega)]
    exact rt_284 hP ok3 hp1
theorem rt_178 {g h s p : Nat} (hP : rt_P g h s p) {post : Int32 → St0 → Prop} {mc ms kc ks t : Nat} {w : Int32} {a9 a10 a11 : Nat → Int32} (ht : g / 3 = t) (ok : rt_ok g h s 3 a9) (hp1 : post 1 ()) :
    wL_lawOf_178 post mc ms (nI p) (nI t) (nI (h % 3)) (nI s) (nI g) (nI h) (nI (3 * (h / 3) + s)) (nI (rt_more g h s)) kc ks (nI 3) (nI 3) w (rt_ent p g 3) (rt_nes g h 3) (rt_rul h s 3) (rt_lg rt_SO 3) (rt_lg (fun i => nI (rt_PA g h p i)) 3) (rt_lg (fun i => nI (rt_PL g h s i)) 3) (rt_lg rt_BE 3) (rt_lg rt_AF 3) a9 a10 a11 := by
  have hP' := hP
  obtain ⟨hg, hh, hs, hp, hrs, hgh⟩ := hP'
  have hR := rt_205 hP (mc := mc) (ms := ms) (kc := kc) (ks := ks) (w := w) (a10 := a10) (a11 := a11) ok hp1
  have e1 : (3 * nI t) + nI s = nI (3 * t + s) := by
    rw [show (3 : Int32) * nI t = nI (3 * t) from pk_mul 3 t, nI_add]
  have e2 : (3 * nI t) + nI (h % 3) = nI (3 * t + h % 3) := by
    rw [show (3 : Int32) * nI t = nI (3 * t) from pk_mul 3 t, nI_add]
  unfold wL_lawOf_178
  rw [e1, e2, rt_sh1 (3 * t + h % 3) (by omega)]
  refine pk_eq g (3 * t + s) (fun z => ?_) (fun z => ?_)
  · have : rt_beh g h s = 2 ^ (3 * t + h % 3) := by
      unfold rt_beh
      rw [ht]
      exact if_pos z
    rw [this] at hR
    exact hR
  · have : rt_beh g h s = 0 := by
      unfold rt_beh
      rw [ht]
      exact if_neg z
    rw [this] at hR
    exact hR
theorem rt_K0 (g h s p : Nat) : rt_K g h s p 0 0 0 rt_z rt_z rt_z = (0, 0, 0, (fun _ => 0), (fun _ => 0), (fun _ => 0), (fun _ => 0), (fun _ => 0), (fun _ => 0), (fun _ => 0), (fun _ => 0), (fun _ => 0), (fun _ => 0), (fun _ => 0)) := rfl
theorem rt_init {post : St2 → Prop} {g h s p : Nat} (H : post (rt_K g h s p 0 0 0 rt_z rt_z rt_z)) : wpX_init post 11 133 (0, 0, 0) := by
  refine ⟨by decide, by decide, by decide, by decide, by decide, by decide, by decide, by decide, by decide, by decide, by decide, by decide, by decide, by decide, by decide, by decide, by decide, by decide, by decide, by decide, by decide, by decide, ?_⟩
  exact H
theorem rt_rm (x : Int32) {d : Nat} {m y : Int32} (hd : 0 < d) (hd2 : d < 2 ^ 31) (hm : m.toBitVec.toNat = 2 ^ 8 - 1) (hy : y = nI d) : ∃ j : Nat, j < d ∧ (x &&& m) - (x &&& m) / y * y = nI j := by
  obtain ⟨k, hk, e⟩ := pk_andE x 8 hm
  refine ⟨k % d, Nat.mod_lt _ hd, ?_⟩
  rw [e, hy]
  exact pk_rem (by omega) hd hd2
theorem rt_rule2 {g h s p r : Nat} (hP : rt_P g h s p) (hr : h % 3 = r) {post : Int32 → St2 → Prop} {w : Int32} {a9 a10 a11 : Nat → Int32} (ok : rt_ok g h s 1 a9)
    (H : ∀ b9, rt_ok g h s 2 b9 → post (nI 2) (rt_K g h s p 2 2 w b9 a10 a11)) : wpX_rule post (rt_K g h s p 1 1 w a9 a10 a11) (nI r) (nI s) 1 := by
  subst hr
  exact rt_rule hP ok H
theorem rt_law (a b c d : Int32) {post : Int32 → St0 → Prop} (hp1 : post 1 ()) : wpL_lawOf post 78 1232 () a b c d := by
  obtain ⟨p, hp, ep⟩ := rt_rm a (d := 6) (m := 255) (y := 6) (by omega) (by omega) (by decide) rfl
  obtain ⟨t, ht, et⟩ := rt_rm b (d := 6) (m := 255) (y := 6) (by omega) (by omega) (by decide) rfl
  obtain ⟨v, hv, ev⟩ := rt_rm (b >>> ((8 : Int32) &&& 31)) (d := 5) (m := 255) (y := 5) (by omega) (by omega) (by decide) rfl
  obtain ⟨r, hr, er⟩ := rt_rm c (d := 3) (m := 255) (y := 3) (by omega) (by omega) (by decide) rfl
  obtain ⟨o, ho, eo⟩ := pk_andE (c >>> ((8 : Int32) &&& 31)) (m := 1) 1 (by decide)
  obtain ⟨q, hq, eq⟩ := rt_rm d (d := 3) (m := 255) (y := 3) (by omega) (by omega) (by decide) rfl
  have eu : ((nI t + 1) + nI v) - ((nI t + 1) + nI v) / 6 * 6 = nI ((t + 1 + v) % 6) := by
    rw [nI_1, nI_add]
    exact pk_rem (a := t + 1 + v) (d := 6) (by omega) (by omega) (by omega)
  have es : ((nI r + 1) + nI o) - ((nI r + 1) + nI o) / 3 * 3 = nI ((r + 1 + o) % 3) := by
    rw [nI_1, nI_add]
    exact pk_rem (a := r + 1 + o) (d := 3) (by omega) (by omega) (by omega)
  have e3 : ∀ x y : Nat, (3 : Int32) * nI x + nI y = nI (3 * x + y) := by
    intro x y
    rw [show (3 : Int32) * nI x = nI (3 * x) from pk_mul 3 x, nI_add]
  have hu : (t + 1 + v) % 6 < 6 := Nat.mod_lt _ (by decide)
  have hut : (t + 1 + v) % 6 ≠ t := by omega
  have hs : (r + 1 + o) % 3 < 3 := Nat.mod_lt _ (by decide)
  have hsr : (r + 1 + o) % 3 ≠ r := by omega
  generalize (t + 1 + v) % 6 = u at eu hu hut
  generalize (r + 1 + o) % 3 = s at es hs hsr
  have hP : rt_P (3 * t + q) (3 * u + r) s p := by
    refine ⟨by omega, by omega, hs, hp, by omega, by omega⟩
  have h1 : (3 * u + r) % 3 = r := by omega
  have h2 : 3 * ((3 * u + r) / 3) + s = 3 * u + s := by omega
  have h3 : (3 * t + q) / 3 = t := by omega
  unfold wpL_lawOf
  refine ⟨by decide, nm_r ep ⟨by decide, nm_r et ⟨by decide, by decide, nm_r (e' := nI u) (by rw [ev]; exact eu) ⟨by decide, nm_r er ⟨by decide, nm_r (e' := nI s) (by rw [eo]; exact es) ⟨by decide, nm_r (e' := nI (3 * t + q)) (by rw [eq]; exact e3 t q) (nm_r (e3 u r) (nm_r (e3 u s) ⟨by decide, by decide, 11, 133, by decide, by decide, ?_⟩))⟩⟩⟩⟩⟩⟩
  refine rt_init (g := 3 * t + q) (h := 3 * u + r) (s := s) (p := p) ?_
  refine rt_nest hP (m := 0) (c := 0) (Or.inl rfl) (by omega) (rt_ok0 (fun j hj => rfl)) (fun b9 ok1 => br_t rfl ?_)
  refine rt_rule2 hP h1 ok1 (fun c9 ok2 => br_t rfl (rt_enter hP ok2 (fun d9 ok3 => br_t rfl ?_)))
  have hL := rt_178 hP (mc := 78) (ms := 1232) (kc := 1 + 11) (ks := 14 + 133) (w := 0) (a10 := rt_z) (a11 := rt_z) h3 ok3 hp1
  rw [h1, h2] at hL
  rw [e3, e3, rt_sh1 (3 * t + s) (by omega)]
  refine pk_eq (3 * t + q) (3 * t + r) (fun z => ?_) (fun z => ?_)
  · have : rt_more (3 * t + q) (3 * u + r) s = 2 ^ (3 * t + s) := by
      unfold rt_more
      rw [h1, h3]
      exact if_pos z
    rw [this] at hL
    exact hL
  · have : rt_more (3 * t + q) (3 * u + r) s = 0 := by
      unfold rt_more
      rw [h1, h3]
      exact if_neg z
    rw [this] at hL
    exact hL
theorem rt_cell {post : Int32 → Prop} {L : Nat} {xs : Nat → Int32} {i : Nat} (hL : L ≤ 4) (hi : i < 4) (H : ∀ x, post x) : wpL_cellAt post L xs () (nI i) :=
  pk_le L i (fun _ => H 0) (fun z => ⟨pk_in i L z, H _⟩)
theorem i_vc (xs : Nat → Int32) (L : Nat) (hL : L ≤ 4) : wpL_law (fun r => r = 1) L xs := by
  unfold wpL_law
  exact rt_cell (i := 0) hL (by omega) (fun a => rt_cell (i := 1) hL (by omega) (fun b => rt_cell (i := 2) hL (by omega) (fun c => rt_cell (i := 3) hL (by omega) (fun d => ⟨78, 1232, by decide, by decide, rt_law a b c d rfl⟩))))
end
