section
/-! the fold of a check word, the check word of n words, the parity of n words -/
def hs_fo (h : Int32) : Int32 := if 0 ≤ h then h <<< ((1 : Int32) &&& 31) else (h <<< ((1 : Int32) &&& 31)) ^^^ 79764919
def hs_fb (b : BitVec 32) : BitVec 32 := (b <<< (1 : Nat)) ^^^ (if b.msb = true then 79764919#32 else 0#32)
def hs_ck (f : Nat → Int32) : Nat → Int32
  | 0 => 0
  | n + 1 => hs_fo (hs_ck f n) ^^^ f n
def hs_px (f : Nat → Int32) : Nat → Int32
  | 0 => 0
  | n + 1 => hs_px f n ^^^ f n
theorem hs_fo_bv (h : Int32) : (hs_fo h).toBitVec = hs_fb h.toBitVec := by
  have hs : (h <<< ((1 : Int32) &&& 31)).toBitVec = h.toBitVec <<< (1 : Nat) := by
    rw [Int32.toBitVec_shiftLeft]
    show h.toBitVec <<< (((1 : Int32) &&& 31).toBitVec.smod 32).toNat = _
    rw [(by decide +kernel : (((1 : Int32) &&& 31).toBitVec.smod 32).toNat = 1)]
  have hm : h.toBitVec.msb = decide (¬ 0 ≤ h) := by
    rw [BitVec.msb_eq_toInt]
    apply decide_eq_decide.mpr
    rw [Int32.le_iff_toInt_le]
    show h.toInt < 0 ↔ ¬ (0 : Int32).toInt ≤ h.toInt
    rw [(by decide : (0 : Int32).toInt = 0)]
    omega
  unfold hs_fo hs_fb
  by_cases hc : 0 ≤ h
  · have e : h.toBitVec.msb = false := by rw [hm]; exact decide_eq_false (fun z => z hc)
    rw [if_pos hc, hs, e, if_neg Bool.false_ne_true, BitVec.xor_zero]
  · have e : h.toBitVec.msb = true := by rw [hm]; exact decide_eq_true hc
    rw [if_neg hc, Int32.toBitVec_xor, hs, e, if_pos rfl]
    rfl
theorem hs_fb_xor (a b : BitVec 32) : hs_fb (a ^^^ b) = hs_fb a ^^^ hs_fb b := by
  have e : ∀ A B C D : BitVec 32, (A ^^^ B) ^^^ (C ^^^ D) = (A ^^^ C) ^^^ (B ^^^ D) := by intro A B C D; ac_rfl
  have e2 : ∀ x y : Bool, (if (x ^^ y) = true then 79764919#32 else 0#32) = (if x = true then 79764919#32 else 0#32) ^^^ (if y = true then 79764919#32 else 0#32) := by
    intro x y
    cases x <;> cases y <;> decide +kernel
  unfold hs_fb
  rw [BitVec.shiftLeft_xor_distrib, BitVec.msb_xor, e2]
  exact e _ _ _ _
theorem hs_fo_xor (a b : Int32) : hs_fo (a ^^^ b) = hs_fo a ^^^ hs_fo b := by
  apply Int32.toBitVec_inj.mp
  rw [hs_fo_bv, Int32.toBitVec_xor, Int32.toBitVec_xor, hs_fb_xor, hs_fo_bv, hs_fo_bv]
theorem hs_fb_or (y : BitVec 32) : ∃ q, (q = 79764919#32 ∨ q = 0#32) ∧ hs_fb y = (y <<< (1 : Nat)) ^^^ q := by
  unfold hs_fb
  by_cases h : y.msb = true
  · exact ⟨79764919#32, Or.inl rfl, by rw [if_pos h]⟩
  · exact ⟨0#32, Or.inr rfl, by rw [if_neg h]⟩
theorem hs_fb_z (b : BitVec 32) (h : hs_fb b = 0#32) : b = 0#32 := by
  unfold hs_fb at h
  by_cases hm : b.msb = true
  · rw [if_pos hm] at h
    have h2 : b <<< (1 : Nat) = 79764919#32 := BitVec.xor_eq_zero_iff.mp h
    have h3 := congrArg BitVec.toNat h2
    rw [BitVec.toNat_shiftLeft, Nat.shiftLeft_eq] at h3
    have h4 : (79764919#32).toNat = 79764919 := by decide
    rw [h4] at h3
    omega
  · rw [if_neg hm, BitVec.xor_zero] at h
    have hm2 : b.msb = false := by
      cases e : b.msb
      · rfl
      · exact absurd e hm
    have h3 := congrArg BitVec.toNat h
    rw [BitVec.toNat_shiftLeft, Nat.shiftLeft_eq] at h3
    have h4 : (0#32).toNat = 0 := by decide
    rw [h4] at h3
    have h5 := BitVec.msb_eq_false_iff_two_mul_lt.mp hm2
    apply BitVec.eq_of_toNat_eq
    rw [h4]
    omega
/-! a word that the fold brings back to itself in one, two or three steps is 0 -/
theorem hs_fix (x c : BitVec 32) (a b : Nat) (hb : a + a = b) (h : x = (x <<< a) ^^^ c) : x = (x <<< b) ^^^ ((c <<< a) ^^^ c) := by
  have h2 : x <<< a = ((x <<< a) ^^^ c) <<< a := congrArg (fun z : BitVec 32 => z <<< a) h
  rw [BitVec.shiftLeft_xor_distrib, ← BitVec.shiftLeft_add, hb] at h2
  rw [← BitVec.xor_assoc, ← h2]
  exact h
theorem hs_const (x c : BitVec 32) (a : Nat) (ha : 32 ≤ a) (h : x = (x <<< a) ^^^ c) : x = c := by
  rw [BitVec.shiftLeft_eq_zero ha, BitVec.zero_xor] at h
  exact h
theorem hs_k1 (x : BitVec 32) (h : hs_fb x = x) : x = 0#32 := by
  obtain ⟨q1, h1, e1⟩ := hs_fb_or x
  have hx : x = (x <<< (1 : Nat)) ^^^ q1 := by rw [← e1]; exact h.symm
  have hy := hs_const x _ 32 (by omega) (hs_fix x _ 16 32 rfl (hs_fix x _ 8 16 rfl (hs_fix x _ 4 8 rfl (hs_fix x _ 2 4 rfl (hs_fix x _ 1 2 rfl hx)))))
  rcases h1 with rfl | rfl
  · subst hy
    revert h
    decide +kernel
  · subst hy
    decide +kernel
theorem hs_k2 (x : BitVec 32) (h : hs_fb (hs_fb x) = x) : x = 0#32 := by
  obtain ⟨q1, h1, e1⟩ := hs_fb_or x
  obtain ⟨q2, h2, e2⟩ := hs_fb_or (hs_fb x)
  have hx : x = (x <<< (2 : Nat)) ^^^ ((q1 <<< (1 : Nat)) ^^^ q2) := by
    have e : ((x <<< (1 : Nat)) ^^^ q1) <<< (1 : Nat) ^^^ q2 = (x <<< (2 : Nat)) ^^^ ((q1 <<< (1 : Nat)) ^^^ q2) := by
      rw [BitVec.shiftLeft_xor_distrib, ← BitVec.shiftLeft_add, BitVec.xor_assoc]
    rw [← e, ← e1, ← e2]
    exact h.symm
  have hy := hs_const x _ 32 (by omega) (hs_fix x _ 16 32 rfl (hs_fix x _ 8 16 rfl (hs_fix x _ 4 8 rfl (hs_fix x _ 2 4 rfl hx))))
  clear hx e1 e2
  rcases h1 with rfl | rfl <;> rcases h2 with rfl | rfl <;> subst hy <;> revert h <;> decide +kernel
theorem hs_k3 (x : BitVec 32) (h : hs_fb (hs_fb (hs_fb x)) = x) : x = 0#32 := by
  obtain ⟨q1, h1, e1⟩ := hs_fb_or x
  obtain ⟨q2, h2, e2⟩ := hs_fb_or (hs_fb x)
  obtain ⟨q3, h3, e3⟩ := hs_fb_or (hs_fb (hs_fb x))
  have hx : x = (x <<< (3 : Nat)) ^^^ ((q1 <<< (2 : Nat)) ^^^ ((q2 <<< (1 : Nat)) ^^^ q3)) := by
    have e : (((x <<< (1 : Nat)) ^^^ q1) <<< (1 : Nat) ^^^ q2) <<< (1 : Nat) ^^^ q3 = (x <<< (3 : Nat)) ^^^ ((q1 <<< (2 : Nat)) ^^^ ((q2 <<< (1 : Nat)) ^^^ q3)) := by
      simp only [BitVec.shiftLeft_xor_distrib, ← BitVec.shiftLeft_add, Nat.reduceAdd]
      ac_rfl
    rw [← e, ← e1, ← e2, ← e3]
    exact h.symm
  have hy := hs_const x _ 48 (by omega) (hs_fix x _ 24 48 rfl (hs_fix x _ 12 24 rfl (hs_fix x _ 6 12 rfl (hs_fix x _ 3 6 rfl hx))))
  clear hx e1 e2 e3
  rcases h1 with rfl | rfl <;> rcases h2 with rfl | rfl <;> rcases h3 with rfl | rfl <;> subst hy <;> revert h <;> decide +kernel
theorem hs_fo0 : hs_fo 0 = 0 := by decide +kernel
theorem hs_foz (x : Int32) : hs_fo x = 0 ↔ x = 0 := by
  constructor
  · intro h
    apply Int32.toBitVec_inj.mp
    have h2 := congrArg Int32.toBitVec h
    rw [hs_fo_bv] at h2
    exact hs_fb_z _ h2
  · intro h
    rw [h]
    exact hs_fo0
theorem hs_o1 {m : Int32} (h : hs_fo m = m) : m = 0 := by
  apply Int32.toBitVec_inj.mp
  have h2 := congrArg Int32.toBitVec h
  rw [hs_fo_bv] at h2
  exact hs_k1 _ h2
theorem hs_o2 {m : Int32} (h : hs_fo (hs_fo m) = m) : m = 0 := by
  apply Int32.toBitVec_inj.mp
  have h2 := congrArg Int32.toBitVec h
  rw [hs_fo_bv, hs_fo_bv] at h2
  exact hs_k2 _ h2
theorem hs_o3 {m : Int32} (h : hs_fo (hs_fo (hs_fo m)) = m) : m = 0 := by
  apply Int32.toBitVec_inj.mp
  have h2 := congrArg Int32.toBitVec h
  rw [hs_fo_bv, hs_fo_bv, hs_fo_bv] at h2
  exact hs_k3 _ h2
/-! check word and parity are linear -/
theorem hs_x4 (a b c d : Int32) : (a ^^^ b) ^^^ (c ^^^ d) = (a ^^^ c) ^^^ (b ^^^ d) := by ac_rfl
theorem hs_xz {a b : Int32} (h : a ^^^ b = a) : b = 0 := by
  have h2 : a ^^^ (a ^^^ b) = a ^^^ a := by rw [h]
  rw [← Int32.xor_assoc, Int32.xor_self, Int32.zero_xor] at h2
  exact h2
theorem hs_ck_congr {f g : Nat → Int32} : ∀ n, (∀ j, j < n → f j = g j) → hs_ck f n = hs_ck g n
  | 0, _ => rfl
  | n + 1, h => by
    show hs_fo (hs_ck f n) ^^^ f n = hs_fo (hs_ck g n) ^^^ g n
    rw [hs_ck_congr n (fun j hj => h j (by omega)), h n (by omega)]
theorem hs_px_congr {f g : Nat → Int32} : ∀ n, (∀ j, j < n → f j = g j) → hs_px f n = hs_px g n
  | 0, _ => rfl
  | n + 1, h => by
    show hs_px f n ^^^ f n = hs_px g n ^^^ g n
    rw [hs_px_congr n (fun j hj => h j (by omega)), h n (by omega)]
theorem hs_ck_xor (f g : Nat → Int32) : ∀ n, hs_ck (fun j => f j ^^^ g j) n = hs_ck f n ^^^ hs_ck g n
  | 0 => by show (0 : Int32) = 0 ^^^ 0; decide
  | n + 1 => by
    show hs_fo (hs_ck (fun j => f j ^^^ g j) n) ^^^ (f n ^^^ g n) = (hs_fo (hs_ck f n) ^^^ f n) ^^^ (hs_fo (hs_ck g n) ^^^ g n)
    rw [hs_ck_xor f g n, hs_fo_xor]
    exact hs_x4 _ _ _ _
theorem hs_px_xor (f g : Nat → Int32) : ∀ n, hs_px (fun j => f j ^^^ g j) n = hs_px f n ^^^ hs_px g n
  | 0 => by show (0 : Int32) = 0 ^^^ 0; decide
  | n + 1 => by
    show hs_px (fun j => f j ^^^ g j) n ^^^ (f n ^^^ g n) = (hs_px f n ^^^ f n) ^^^ (hs_px g n ^^^ g n)
    rw [hs_px_xor f g n]
    exact hs_x4 _ _ _ _
theorem hs_px_dl (d : Nat) (m : Int32) : ∀ n, hs_px (fun j => if j = d then m else 0) n = if d < n then m else 0
  | 0 => by rw [if_neg (by omega)]; rfl
  | n + 1 => by
    show hs_px (fun j => if j = d then m else 0) n ^^^ (if n = d then m else 0) = if d < n + 1 then m else 0
    rw [hs_px_dl d m n]
    by_cases h1 : d < n
    · rw [if_pos h1, if_neg (show ¬ n = d by omega), if_pos (show d < n + 1 by omega), Int32.xor_zero]
    · by_cases h2 : n = d
      · rw [if_neg h1, if_pos h2, if_pos (show d < n + 1 by omega), Int32.zero_xor]
      · rw [if_neg h1, if_neg h2, if_neg (show ¬ d < n + 1 by omega), Int32.zero_xor]
theorem hs_ck1 {n d : Nat} {m : Int32} (hn : n ≤ 4) (hd : d < n) (h : hs_ck (fun j => if j = d then m else 0) n = 0) : m = 0 := by
  have hc : n = 1 ∨ n = 2 ∨ n = 3 ∨ n = 4 := by omega
  have hd' : d = 0 ∨ d = 1 ∨ d = 2 ∨ d = 3 := by omega
  rcases hc with rfl | rfl | rfl | rfl <;> rcases hd' with rfl | rfl | rfl | rfl <;> first | omega | (simp [hs_ck, hs_fo0, hs_foz] at h; exact h)
theorem hs_ck2 {n d c : Nat} {m : Int32} (hn : n ≤ 4) (hd : d < n) (hc : c < n) (hdc : d ≠ c) (h : hs_ck (fun j => if j = d ∨ j = c then m else 0) n = 0) : m = 0 := by
  have hn' : n = 2 ∨ n = 3 ∨ n = 4 := by omega
  have hd' : d = 0 ∨ d = 1 ∨ d = 2 ∨ d = 3 := by omega
  have hc' : c = 0 ∨ c = 1 ∨ c = 2 ∨ c = 3 := by omega
  rcases hn' with rfl | rfl | rfl <;> rcases hd' with rfl | rfl | rfl | rfl <;> rcases hc' with rfl | rfl | rfl | rfl <;> first | omega | (simp [hs_ck, hs_fo0, hs_foz] at h; first | exact hs_o1 h | exact hs_o2 h | exact hs_o3 h)
/-- one word is wrong: the check word is wrong -/
theorem hs_ne1 {V x : Nat → Int32} {n d : Nat} {m : Int32} (hn : n ≤ 4) (hd : d < n) (hm : ¬ m = 0) (hx : ∀ j, j < n → x j = V j ^^^ (if j = d then m else 0)) : ¬ hs_ck x n = hs_ck V n := by
  intro e
  rw [hs_ck_congr n hx, hs_ck_xor V (fun j => if j = d then m else 0) n] at e
  exact hm (hs_ck1 hn hd (hs_xz e))
/-- two words are wrong by the same mask: the check word is wrong -/
theorem hs_ne2 {V x : Nat → Int32} {n d c : Nat} {m : Int32} (hn : n ≤ 4) (hd : d < n) (hc : c < n) (hdc : d ≠ c) (hm : ¬ m = 0) (hx : ∀ j, j < n → x j = V j ^^^ (if j = d ∨ j = c then m else 0)) : ¬ hs_ck x n = hs_ck V n := by
  intro e
  rw [hs_ck_congr n hx, hs_ck_xor V (fun j => if j = d ∨ j = c then m else 0) n] at e
  exact hm (hs_ck2 hn hd hc hdc (hs_xz e))
/-! the columns of a stripe: the words, then their parity; column d is off by m -/
def hs_rt (V : Nat → Int32) (n c : Nat) : Int32 := if c < n then V c else hs_px V n
def hs_cv (V : Nat → Int32) (n d : Nat) (m : Int32) (c : Nat) : Int32 := hs_rt V n c ^^^ (if c = d then m else 0)
theorem hs_px_rt (V : Nat → Int32) (n : Nat) : hs_px (hs_rt V n) (n + 1) = 0 := by
  show hs_px (hs_rt V n) n ^^^ hs_rt V n n = 0
  have e : hs_px (hs_rt V n) n = hs_px V n := hs_px_congr n (fun j hj => if_pos hj)
  have e2 : hs_rt V n n = hs_px V n := if_neg (by omega)
  rw [e, e2, Int32.xor_self]
theorem hs_px_cv (V : Nat → Int32) {n d : Nat} (m : Int32) (hd : d ≤ n) : hs_px (hs_cv V n d m) (n + 1) = m := by
  have h := hs_px_xor (hs_rt V n) (fun j => if j = d then m else 0) (n + 1)
  rw [hs_px_rt, hs_px_dl, if_pos (show d < n + 1 by omega), Int32.zero_xor] at h
  exact h
theorem hs_px_rb (v : Nat → Int32) {l n : Nat} (hl : l < n) : hs_px (fun c => if c = l then 0 else v c) n = hs_px v n ^^^ v l := by
  have e : hs_px v n = hs_px (fun c => (if c = l then 0 else v c) ^^^ (if c = l then v l else 0)) n := by
    apply hs_px_congr
    intro j _
    by_cases h : j = l
    · rw [if_pos h, if_pos h, h, Int32.zero_xor]
    · rw [if_neg h, if_neg h, Int32.xor_zero]
  have e2 := hs_px_xor (fun c => if c = l then 0 else v c) (fun c => if c = l then v l else 0) n
  rw [hs_px_dl, if_pos hl] at e2
  have e3 : hs_px v n = hs_px (fun c => if c = l then 0 else v c) n ^^^ v l := e.trans e2
  rw [e3, Int32.xor_assoc, Int32.xor_self, Int32.xor_zero]
theorem hs_rb_cv (V : Nat → Int32) {n d l : Nat} (m : Int32) (hd : d ≤ n) (hl : l ≤ n) : hs_px (fun c => if c = l then 0 else hs_cv V n d m c) (n + 1) = m ^^^ hs_cv V n d m l := by
  rw [hs_px_rb (hs_cv V n d m) (show l < n + 1 by omega), hs_px_cv V m hd]
theorem hs_rb_d (V : Nat → Int32) (n d : Nat) (m : Int32) : m ^^^ hs_cv V n d m d = hs_rt V n d := by
  unfold hs_cv
  rw [if_pos rfl, Int32.xor_comm (hs_rt V n d) m, ← Int32.xor_assoc, Int32.xor_self, Int32.zero_xor]
theorem hs_cv_n {V : Nat → Int32} {n d c : Nat} {m : Int32} (h : c ≠ d) : hs_cv V n d m c = hs_rt V n c := by
  unfold hs_cv
  rw [if_neg h, Int32.xor_zero]
theorem hs_cv_0 (V : Nat → Int32) (n d c : Nat) : hs_cv V n d 0 c = hs_rt V n c := by
  unfold hs_cv
  rw [ite_self, Int32.xor_zero]
theorem hs_rt_lt {V : Nat → Int32} {n c : Nat} (h : c < n) : hs_rt V n c = V c := if_pos h
theorem hs_rt_n (V : Nat → Int32) (n : Nat) : hs_rt V n n = hs_px V n := if_neg (by omega)
/-- with nothing off, what rebuilds a column is the column -/
theorem hs_rb_0 (V : Nat → Int32) {n l : Nat} (hl : l ≤ n) : hs_px (fun c => if c = l then 0 else hs_rt V n c) (n + 1) = hs_rt V n l := by
  rw [hs_px_rb (hs_rt V n) (show l < n + 1 by omega), hs_px_rt, Int32.zero_xor]
end
section
/-! places and stores -/
theorem hs_i5 (e c : Nat) : nI e * 5 + nI c = nI (e * 5 + c) := by
  show nI e * nI 5 + nI c = _
  rw [pk_mul, nI_add]
theorem hs_i12 (d r : Nat) : nI d * 12 + nI r = nI (d * 12 + r) := by
  show nI d * nI 12 + nI r = _
  rw [pk_mul, nI_add]
theorem hs_fill {f s : Nat → Int32} {i : Nat} (h : ∀ j, j < i → s j = f j) : ∀ j, j < i + 1 → upd s i (f i) j = f j := by
  intro j hj
  by_cases e : j = i
  · rw [e, pk_us]
  · rw [pk_un e]
    exact h j (by omega)
theorem hs_neg5 (n : Nat) (h : n < 2 ^ 31) : ¬ (-5 : Int32) = nI n := by
  intro e
  exact absurd (by decide : (-5 : Int32) < 0) (by rw [e]; exact nI_pos h)
/-! an extent e: n words V, columns at the cells p, column d off by m -/
def hs_ex (a1 a3 a4 a5 : Nat → Int32) (e n : Nat) (V : Nat → Int32) (p : Nat → Nat) (d : Nat) (m : Int32) : Prop :=
  1 ≤ n ∧ n ≤ 4 ∧ d ≤ n ∧ a3 e = nI n ∧ a4 e = hs_ck V n ∧ (∀ c, c ≤ n → a5 (e * 5 + c) = nI (p c) ∧ p c < 60) ∧ (∀ c, c ≤ n → a1 (p c) = hs_cv V n d m c)
/-- what recover answers -/
def hs_rv (n d : Nat) (m : Int32) : Int32 := if m = 0 ∨ d = n then -1 else nI d
/-- what faulty answers -/
def hs_fv (d : Nat) (m : Int32) : Int32 := if m = 0 then -5 else nI d
/-- the digest of n words -/
def hs_sm (f : Nat → Int32) : Nat → Int32
  | 0 => 0
  | n + 1 => hs_sm f n + (nI n + 1) * f n
theorem hs_bad {post : Int32 → Prop} {u : St1} {e : Nat} (he : e < 8) (h : post 0) : wpX_bad post u (nI e) := by
  obtain ⟨f0, f1, f2, a1, a2, a3, a4, a5, a6, a7, a8⟩ := u
  exact br_f (nI_pos (by omega)) (br_t (nI_lt (b := 8) he (by decide)) h)
theorem hs_size {post : Int32 → Prop} {f0 f1 f2 : Int32} {a1 a2 a3 a4 a5 a6 a7 a8 : Nat → Int32} {e : Nat} (he : e < 8) (h : post (a3 e)) : wpX_size post (f0, f1, f2, a1, a2, a3, a4, a5, a6, a7, a8) (nI e) := by
  unfold wpX_size
  dsimp only
  refine hs_bad he (br_t rfl ⟨pk_in e 8 he, ?_⟩)
  rw [nI_clamp (show e < 2 ^ 31 by omega)]
  exact h
theorem hs_fold {post : Int32 → Prop} {u : St1} {h : Int32} (hp : post (hs_fo h)) : wpX_fold post u h := by
  obtain ⟨f0, f1, f2, a1, a2, a3, a4, a5, a6, a7, a8⟩ := u
  by_cases hc : 0 ≤ h
  · rw [show hs_fo h = h <<< ((1 : Int32) &&& 31) from if_pos hc] at hp
    exact nm_e (br_t hc hp)
  · rw [show hs_fo h = (h <<< ((1 : Int32) &&& 31)) ^^^ 79764919 from if_neg hc] at hp
    exact nm_e (br_f hc hp)
theorem hs_loadWords {post : St1 → Prop} {f0 f1 f2 : Int32} {a1 a2 a3 a4 a5 a6 a7 a8 : Nat → Int32} {e n : Nat} {p : Nat → Nat} (he : e < 8) (hn : n ≤ 4) (h3 : a3 e = nI n) (h5 : ∀ c, c ≤ n → a5 (e * 5 + c) = nI (p c) ∧ p c < 60)
    (H : ∀ b7 : Nat → Int32, (∀ j, j < n → b7 j = a1 (p j)) → post (f0, f1, f2, a1, a2, a3, a4, a5, a6, b7, a8)) :
    wpX_loadWords post (f0, f1, f2, a1, a2, a3, a4, a5, a6, a7, a8) (nI e) := by
  have hc : a3 (nI e).toNatClampNeg = nI n := by rw [nI_clamp (show e < 2 ^ 31 by omega), h3]
  show ∃ fu, wX_loadWords_2 post (nI e) f0 f1 f2 fu (nI 0) a1 a2 a3 a4 a5 a6 a7 a8
  refine pk_loop (fun k i s => wX_loadWords_2 post (nI e) f0 f1 f2 k (nI i) a1 a2 a3 a4 a5 a6 s a8) (fun i s => ∀ j, j < i → s j = a1 (p j)) n 0 a7 (by omega) (fun j hj => absurd hj (by omega)) ?_ ?_
  · intro k s hs
    exact And.intro (pk_in e 8 he) (pk_le n n (fun _ => H s hs) (fun z => absurd z (by omega)) hc)
  · intro k i s hi hs hw
    have hp := h5 i (by omega)
    have h5' : a5 (nI e * 5 + nI i).toNatClampNeg = nI (p i) := by rw [hs_i5, nI_clamp (show e * 5 + i < 2 ^ 31 by omega), hp.1]
    refine And.intro (pk_in e 8 he) (pk_le n i (fun z => absurd z (by omega)) (fun _ => ⟨pk_in (e * 5 + i) 40 (by omega) (hs_i5 e i), pk_in (p i) 60 hp.2 h5', pk_in i 4 (by omega), ?_⟩) hc)
    rw [h5', nI_clamp (show p i < 2 ^ 31 by omega), nI_clamp (show i < 2 ^ 31 by omega)]
    exact nm_e (nm_r (nI_1 i) (hw _ (hs_fill (f := fun j => a1 (p j)) hs)))
theorem hs_checkOf {post : Int32 → Prop} {f0 f1 f2 : Int32} {a1 a2 a3 a4 a5 a6 a7 a8 : Nat → Int32} {n : Nat} (hn : n ≤ 4) (H : post (hs_ck a7 n)) :
    wpX_checkOf post (f0, f1, f2, a1, a2, a3, a4, a5, a6, a7, a8) (nI n) := by
  show ∃ fu, wX_checkOf_4 post (nI n) f0 f1 f2 a1 a2 a3 a4 a5 a6 a7 a8 fu 0 (nI 0)
  refine pk_loop (fun k i s => wX_checkOf_4 post (nI n) f0 f1 f2 a1 a2 a3 a4 a5 a6 a7 a8 k s (nI i)) (fun i s => s = hs_ck a7 i) n 0 0 (by omega) rfl ?_ ?_
  · intro k s hs
    subst hs
    exact pk_le n n (fun _ => H) (fun z => absurd z (by omega))
  · intro k i s hi hs hw
    subst hs
    refine pk_le n i (fun z => absurd z (by omega)) (fun _ => ?_)
    refine hs_fold ⟨pk_in i 4 (by omega), ?_⟩
    rw [nI_clamp (show i < 2 ^ 31 by omega)]
    exact nm_e (nm_r (nI_1 i) (hw _ rfl))
theorem hs_rebuilt {post : Int32 → Prop} {f0 f1 f2 : Int32} {a1 a2 a3 a4 a5 a6 a7 a8 : Nat → Int32} {e n l : Nat} {p : Nat → Nat} {v : Nat → Int32} (he : e < 8) (hn : n ≤ 4) (hl : l ≤ 4) (h3 : a3 e = nI n) (h5 : ∀ c, c ≤ n → a5 (e * 5 + c) = nI (p c) ∧ p c < 60)
    (h1 : ∀ c, c ≤ n → c ≠ l → a1 (p c) = v c) (H : post (hs_px (fun c => if c = l then 0 else v c) (n + 1))) :
    wpX_rebuilt post (f0, f1, f2, a1, a2, a3, a4, a5, a6, a7, a8) (nI e) (nI l) := by
  have hc : a3 (nI e).toNatClampNeg = nI n := by rw [nI_clamp (show e < 2 ^ 31 by omega), h3]
  show ∃ fu, wX_rebuilt_5 post (nI e) (nI l) f0 f1 f2 a1 a2 a3 a4 a5 a6 a7 a8 fu 0 (nI 0)
  refine pk_loop (fun k i s => wX_rebuilt_5 post (nI e) (nI l) f0 f1 f2 a1 a2 a3 a4 a5 a6 a7 a8 k s (nI i)) (fun i s => s = hs_px (fun c => if c = l then 0 else v c) i) (n + 1) 0 0 (by omega) rfl ?_ ?_
  · intro k s hs
    subst hs
    exact And.intro (pk_in e 8 he) (pk_lt n (n + 1) (fun _ => H) (fun z => absurd z (by omega)) hc)
  · intro k i s hi hs hw
    have hp := h5 i (by omega)
    have h5' : a5 (nI e * 5 + nI i).toNatClampNeg = nI (p i) := by rw [hs_i5, nI_clamp (show e * 5 + i < 2 ^ 31 by omega), hp.1]
    refine And.intro (pk_in e 8 he) (pk_lt n i (fun z => absurd z (by omega)) (fun _ => pk_eq i l (fun z => ?_) (fun z => ⟨pk_in (e * 5 + i) 40 (by omega) (hs_i5 e i), pk_in (p i) 60 hp.2 h5', ?_⟩)) hc)
    · refine nm_r (nI_1 i) (hw _ ?_)
      rw [hs]
      show _ = hs_px (fun c => if c = l then 0 else v c) i ^^^ (if i = l then 0 else v i)
      rw [if_pos z, Int32.xor_zero]
    · rw [h5', nI_clamp (show p i < 2 ^ 31 by omega)]
      refine nm_e (nm_r (nI_1 i) (hw _ ?_))
      rw [hs]
      show _ = hs_px (fun c => if c = l then 0 else v c) i ^^^ (if i = l then 0 else v i)
      rw [if_neg z, h1 i (by omega) z]
theorem hs_recover {post : Int32 → St1 → Prop} {f0 f1 f2 : Int32} {a1 a2 a3 a4 a5 a6 a7 a8 : Nat → Int32} {e n d : Nat} {V : Nat → Int32} {p : Nat → Nat} {m : Int32} (he : e < 8) (X : hs_ex a1 a3 a4 a5 e n V p d m)
    (H : ∀ b7 : Nat → Int32, (∀ j, j < n → b7 j = V j) → post (hs_rv n d m) (f0, f1, f2, a1, a2, a3, a4, a5, a6, b7, a8)) :
    wpX_recover post (f0, f1, f2, a1, a2, a3, a4, a5, a6, a7, a8) (nI e) := by
  obtain ⟨hn1, hn4, hd, h3, h4, h5, h1⟩ := X
  have hc3 : a3 (nI e).toNatClampNeg = nI n := by rw [nI_clamp (show e < 2 ^ 31 by omega), h3]
  have hc4 : a4 (nI e).toNatClampNeg = hs_ck V n := by rw [nI_clamp (show e < 2 ^ 31 by omega), h4]
  refine And.intro (pk_in e 8 he) (nm_r hc3 ?_)
  refine hs_loadWords he hn4 h3 h5 (fun b7 hb => ?_)
  dsimp only
  refine hs_checkOf hn4 ⟨pk_in e 8 he, ?_⟩
  have hb' : ∀ j, j < n → b7 j = V j ^^^ (if j = d then m else 0) := by
    intro j hj
    rw [hb j hj, h1 j (by omega)]
    unfold hs_cv
    rw [hs_rt_lt hj]
  rw [hc4]
  by_cases hm : m = 0 ∨ d = n
  · have hV : ∀ j, j < n → b7 j = V j := by
      intro j hj
      rw [hb' j hj]
      rcases hm with hm | hm
      · rw [hm, ite_self, Int32.xor_zero]
      · rw [if_neg (show ¬ j = d by omega), Int32.xor_zero]
    rw [show hs_rv n d m = -1 from if_pos hm] at H
    exact br_t (hs_ck_congr n hV) (H b7 hV)
  · rw [show hs_rv n d m = nI d from if_neg hm] at H
    have hm0 : ¬ m = 0 := fun z => hm (Or.inl z)
    have hdn : d < n := by
      have hz : ¬ d = n := fun z => hm (Or.inr z)
      omega
    refine br_f (hs_ne1 hn4 hdn hm0 hb') ?_
    refine pk_loop (fun k i s => wX_recover_33 post (nI e) (nI n) f0 f1 f2 k (nI i) a1 a2 a3 a4 a5 a6 s a8) (fun i s => ∀ j, j < n → s j = b7 j) d 0 b7 (by omega) (fun j _ => rfl) ?_ ?_
    · intro k s hs
      refine pk_le n d (fun z => absurd z (by omega)) (fun _ => ⟨pk_in d 4 (by omega), nm_e ?_⟩)
      refine hs_rebuilt (v := hs_cv V n d m) he hn4 (by omega) h3 h5 (fun c hc _ => h1 c hc) ⟨pk_in d 4 (by omega), ?_⟩
      refine nm_r (e' := upd s d (V d)) (by rw [nI_clamp (show d < 2 ^ 31 by omega), hs_rb_cv V m hd hd, hs_rb_d, hs_rt_lt hdn]) ?_
      have hx : ∀ j, j < n → upd s d (V d) j = V j := by
        intro j hj
        by_cases ej : j = d
        · rw [ej, pk_us]
        · rw [pk_un ej, hs j hj, hb' j hj, if_neg ej, Int32.xor_zero]
      refine hs_checkOf hn4 ⟨pk_in e 8 he, br_t ?_ (H _ hx)⟩
      rw [hc4]
      exact hs_ck_congr n hx
    · intro k i s hi hs hw
      refine pk_le n i (fun z => absurd z (by omega)) (fun _ => ⟨pk_in i 4 (by omega), nm_e ?_⟩)
      refine hs_rebuilt (v := hs_cv V n d m) he hn4 (by omega) h3 h5 (fun c hc _ => h1 c hc) ⟨pk_in i 4 (by omega), ?_⟩
      refine nm_r (e' := upd s i (m ^^^ V i)) (by rw [nI_clamp (show i < 2 ^ 31 by omega), hs_rb_cv V m hd (by omega), hs_cv_n (by omega), hs_rt_lt (by omega)]) ?_
      refine hs_checkOf hn4 ⟨pk_in e 8 he, br_f ?_ ⟨pk_in i 4 (by omega), ?_⟩⟩
      · rw [hc4]
        refine hs_ne2 (d := d) (c := i) hn4 hdn (by omega) (by omega) hm0 ?_
        intro j hj
        by_cases ej : j = i
        · rw [ej, pk_us, if_pos (Or.inr rfl), Int32.xor_comm]
        · rw [pk_un ej, hs j hj, hb' j hj]
          by_cases ed : j = d
          · rw [if_pos ed, if_pos (Or.inl ed)]
          · rw [if_neg ed, if_neg (fun z => z.elim ed ej)]
      · rw [nI_clamp (show i < 2 ^ 31 by omega)]
        refine nm_e (nm_r (nI_1 i) (hw _ ?_))
        intro j hj
        by_cases ej : j = i
        · rw [ej, pk_us]
          exact hs i (by omega)
        · rw [pk_un ej, pk_un ej]
          exact hs j hj
theorem hs_faulty {post : Int32 → St1 → Prop} {f0 f1 f2 : Int32} {a1 a2 a3 a4 a5 a6 a7 a8 : Nat → Int32} {e n d : Nat} {V : Nat → Int32} {p : Nat → Nat} {m : Int32} (he : e < 8) (X : hs_ex a1 a3 a4 a5 e n V p d m)
    (H : ∀ b7 : Nat → Int32, (∀ j, j < n → b7 j = V j) → post (hs_fv d m) (f0, f1, f2, a1, a2, a3, a4, a5, a6, b7, a8)) :
    wpX_faulty post (f0, f1, f2, a1, a2, a3, a4, a5, a6, a7, a8) (nI e) := by
  unfold wpX_faulty
  dsimp only
  refine hs_recover he X (fun b7 hb => ?_)
  dsimp only
  obtain ⟨hn1, hn4, hd, h3, h4, h5, h1⟩ := X
  have hc3 : a3 (nI e).toNatClampNeg = nI n := by rw [nI_clamp (show e < 2 ^ 31 by omega), h3]
  have hp := h5 n (by omega)
  have h5' : a5 (nI e * 5 + nI n).toNatClampNeg = nI (p n) := by rw [hs_i5, nI_clamp (show e * 5 + n < 2 ^ 31 by omega), hp.1]
  by_cases hm : m = 0 ∨ d = n
  · rw [show hs_rv n d m = -1 from if_pos hm, hc3, h5', nI_clamp (show p n < 2 ^ 31 by omega), h1 n (by omega)]
    refine br_t (by decide) ⟨pk_in e 8 he, ?_⟩
    refine hs_rebuilt (v := hs_cv V n d m) he hn4 (by omega) h3 h5 (fun c hc _ => h1 c hc) ⟨pk_in e 8 he, pk_in (e * 5 + n) 40 (by omega) (hs_i5 e n), pk_in (p n) 60 hp.2, ?_⟩
    rw [hs_rb_cv V m hd (by omega)]
    by_cases hm0 : m = 0
    · rw [show hs_fv d m = -5 from if_pos hm0] at H
      refine br_t ?_ (H b7 hb)
      rw [hm0, Int32.zero_xor]
    · rw [show hs_fv d m = nI d from if_neg hm0, hm.resolve_left hm0] at H
      refine br_f ?_ ⟨pk_in e 8 he, H b7 hb⟩
      intro z
      rw [Int32.xor_comm] at z
      exact hm0 (hs_xz z)
  · have hm0 : ¬ m = 0 := fun z => hm (Or.inl z)
    rw [show hs_rv n d m = nI d from if_neg hm]
    rw [show hs_fv d m = nI d from if_neg hm0] at H
    exact br_f (nI_pos (by omega)) (H b7 hb)
theorem hs_mend_n {post : St1 → Prop} {f0 f1 f2 : Int32} {a1 a2 a3 a4 a5 a6 a7 a8 : Nat → Int32} {x r : Int32} (hr : r < 0) (H : post (f0, f1, f2, a1, a2, a3, a4, a5, a6, a7, a8)) :
    wpX_mendData post (f0, f1, f2, a1, a2, a3, a4, a5, a6, a7, a8) x r := by
  unfold wpX_mendData
  exact br_t hr H
theorem hs_mend_c {post : St1 → Prop} {f0 f1 f2 : Int32} {a1 a2 a3 a4 a5 a6 a7 a8 : Nat → Int32} {e c q : Nat} (he : e < 8) (hc : c < 4) (h5 : a5 (e * 5 + c) = nI q) (hq : q < 60) (H : post (f0, f1, f2 + 1, upd a1 q (a7 c), a2, a3, a4, a5, a6, a7, a8)) :
    wpX_mendData post (f0, f1, f2, a1, a2, a3, a4, a5, a6, a7, a8) (nI e) (nI c) := by
  have h5' : a5 (nI e * 5 + nI c).toNatClampNeg = nI q := by rw [hs_i5, nI_clamp (show e * 5 + c < 2 ^ 31 by omega), h5]
  unfold wpX_mendData
  dsimp only
  refine br_f (nI_pos (by omega)) ⟨pk_in (e * 5 + c) 40 (by omega) (hs_i5 e c), pk_in c 4 hc, pk_in q 60 hq h5', ?_⟩
  rw [h5', nI_clamp (show q < 2 ^ 31 by omega), nI_clamp (show c < 2 ^ 31 by omega)]
  exact nm_e (nm_e H)
theorem hs_read_0 {post : Int32 → St1 → Prop} {f0 f1 f2 : Int32} {a1 a2 a3 a4 a5 a6 a7 a8 : Nat → Int32} {e n i : Nat} (he : e < 8) (hn : n ≤ 4) (h3 : a3 e = nI n) (hi : n ≤ i) (hi8 : i < 8) (H : post 0 (f0, f1, f2, a1, a2, a3, a4, a5, a6, a7, a8)) :
    wpX_read post (f0, f1, f2, a1, a2, a3, a4, a5, a6, a7, a8) (nI e) (nI i) := by
  have hc3 : a3 (nI e).toNatClampNeg = nI n := by rw [nI_clamp (show e < 2 ^ 31 by omega), h3]
  unfold wpX_read
  dsimp only
  refine hs_bad he (br_t rfl (br_f (nI_pos (by omega)) ⟨pk_in e 8 he, ?_⟩))
  rw [hc3]
  exact br_f (nI_nlt hi (by omega)) H
theorem hs_read_1 {post : Int32 → St1 → Prop} {f0 f1 f2 : Int32} {a1 a2 a3 a4 a5 a6 a7 a8 : Nat → Int32} {e n d i : Nat} {V : Nat → Int32} {p : Nat → Nat} {m : Int32} (he : e < 8) (X : hs_ex a1 a3 a4 a5 e n V p d m) (hi : i < n)
    (H1 : (m = 0 ∨ d = n) → ∀ b7 : Nat → Int32, post (V i) (f0, f1, f2, a1, a2, a3, a4, a5, a6, b7, a8))
    (H2 : ¬ (m = 0 ∨ d = n) → ∀ b7 : Nat → Int32, post (V i) (f0, f1, f2 + 1, upd a1 (p d) (hs_rt V n d), a2, a3, a4, a5, a6, b7, a8)) :
    wpX_read post (f0, f1, f2, a1, a2, a3, a4, a5, a6, a7, a8) (nI e) (nI i) := by
  have X' := X
  obtain ⟨hn1, hn4, hd, h3, h4, h5, h1⟩ := X
  have hc3 : a3 (nI e).toNatClampNeg = nI n := by rw [nI_clamp (show e < 2 ^ 31 by omega), h3]
  unfold wpX_read
  dsimp only
  refine hs_bad he (br_t rfl (br_f (nI_pos (by omega)) ⟨pk_in e 8 he, ?_⟩))
  rw [hc3]
  refine br_t (nI_lt hi (by omega)) ?_
  refine hs_recover he X' (fun b7 hb => ?_)
  dsimp only
  by_cases hm : m = 0 ∨ d = n
  · rw [show hs_rv n d m = -1 from if_pos hm]
    refine hs_mend_n (by decide) ⟨pk_in i 4 (by omega), ?_⟩
    dsimp only
    rw [nI_clamp (show i < 2 ^ 31 by omega), hb i hi]
    exact H1 hm b7
  · rw [show hs_rv n d m = nI d from if_neg hm]
    have hdn : d < n := by
      have hz : ¬ d = n := fun z => hm (Or.inr z)
      omega
    refine hs_mend_c he (by omega) (h5 d hd).1 (h5 d hd).2 ⟨pk_in i 4 (by omega), ?_⟩
    dsimp only
    rw [nI_clamp (show i < 2 ^ 31 by omega), hb i hi, hb d hdn, ← hs_rt_lt (V := V) hdn]
    exact H2 hm b7
theorem hs_digest_0 {post : Int32 → St1 → Prop} {f0 f1 f2 : Int32} {a1 a2 a3 a4 a5 a6 a7 a8 : Nat → Int32} {e : Nat} (he : e < 8) (h3 : a3 e = 0) (H : post 0 (f0, f1, f2, a1, a2, a3, a4, a5, a6, a7, a8)) :
    wpX_digest post (f0, f1, f2, a1, a2, a3, a4, a5, a6, a7, a8) (nI e) := by
  unfold wpX_digest
  dsimp only
  refine hs_bad he (br_t rfl ⟨pk_in e 8 he, ?_⟩)
  rw [nI_clamp (show e < 2 ^ 31 by omega), h3]
  exact br_t rfl H
theorem hs_digest_1 {post : Int32 → St1 → Prop} {f0 f1 f2 : Int32} {a1 a2 a3 a4 a5 a6 a7 a8 : Nat → Int32} {e n d : Nat} {V : Nat → Int32} {p : Nat → Nat} {m : Int32} (he : e < 8) (X : hs_ex a1 a3 a4 a5 e n V p d m)
    (H : ∀ b7 : Nat → Int32, post (hs_sm V n) (f0, f1, f2, a1, a2, a3, a4, a5, a6, b7, a8)) :
    wpX_digest post (f0, f1, f2, a1, a2, a3, a4, a5, a6, a7, a8) (nI e) := by
  have X' := X
  obtain ⟨hn1, hn4, hd, h3, h4, h5, h1⟩ := X
  have hc3 : a3 (nI e).toNatClampNeg = nI n := by rw [nI_clamp (show e < 2 ^ 31 by omega), h3]
  unfold wpX_digest
  dsimp only
  refine hs_bad he (br_t rfl ⟨pk_in e 8 he, ?_⟩)
  rw [hc3]
  refine br_f (nI_ne0 (by omega) (by omega)) ?_
  refine hs_recover he X' (fun b7 hb => ?_)
  dsimp only
  refine pk_loop (fun k i s => wX_digest_29 post (nI e) f0 f1 f2 a1 a2 a3 a4 a5 a6 b7 a8 k s (nI i)) (fun i s => s = hs_sm V i) n 0 0 (by omega) rfl ?_ ?_
  · intro k s hs
    subst hs
    exact And.intro (pk_in e 8 he) (pk_le n n (fun _ => H b7) (fun z => absurd z (by omega)) hc3)
  · intro k i s hi hs hw
    subst hs
    refine And.intro (pk_in e 8 he) (pk_le n i (fun z => absurd z (by omega)) (fun _ => ⟨pk_in i 4 (by omega), ?_⟩) hc3)
    rw [nI_clamp (show i < 2 ^ 31 by omega), hb i hi]
    exact nm_e (nm_r (nI_1 i) (hw _ rfl))
theorem hs_scrubOne {post : St1 → Prop} {f0 f1 f2 : Int32} {a1 a2 a3 a4 a5 a6 a7 a8 : Nat → Int32} {e n d : Nat} {V : Nat → Int32} {p : Nat → Nat} {m : Int32} (he : e < 8) (X : hs_ex a1 a3 a4 a5 e n V p d m)
    (H1 : m = 0 → ∀ b7 : Nat → Int32, post (f0, f1, f2, a1, a2, a3, a4, a5, a6, b7, a8))
    (H2 : ¬ m = 0 → ∀ b7 : Nat → Int32, post (f0, f1, f2 + 1, upd a1 (p d) (hs_rt V n d), a2, a3, a4, a5, a6, b7, a8)) :
    wpX_scrubOne post (f0, f1, f2, a1, a2, a3, a4, a5, a6, a7, a8) (nI e) := by
  have X' := X
  obtain ⟨hn1, hn4, hd, h3, h4, h5, h1⟩ := X
  have hc3 : a3 (nI e).toNatClampNeg = nI n := by rw [nI_clamp (show e < 2 ^ 31 by omega), h3]
  unfold wpX_scrubOne
  dsimp only
  refine hs_faulty he X' (fun b7 hb => ?_)
  dsimp only
  refine And.intro (pk_in e 8 he) ?_
  rw [hc3]
  by_cases hm : m = 0
  · rw [show hs_fv d m = -5 from if_pos hm]
    exact br_f (hs_neg5 n (by omega)) (hs_mend_n (by decide) (H1 hm b7))
  · rw [show hs_fv d m = nI d from if_neg hm]
    have hp := h5 d hd
    have h5' : a5 (nI e * 5 + nI d).toNatClampNeg = nI (p d) := by rw [hs_i5, nI_clamp (show e * 5 + d < 2 ^ 31 by omega), hp.1]
    refine pk_eq d n (fun z => ⟨pk_in (e * 5 + d) 40 (by omega) (hs_i5 e d), ?_⟩) (fun z => ?_)
    · refine hs_rebuilt (v := hs_cv V n d m) he hn4 (by omega) h3 h5 (fun c hc _ => h1 c hc) ⟨pk_in (p d) 60 hp.2 h5', ?_⟩
      rw [h5', nI_clamp (show p d < 2 ^ 31 by omega), hs_rb_cv V m hd hd, hs_rb_d]
      exact nm_e (nm_e (H2 hm b7))
    · have hdn : d < n := by omega
      refine hs_mend_c he (by omega) hp.1 hp.2 ?_
      rw [hb d hdn, ← hs_rt_lt (V := V) hdn]
      exact H2 hm b7
end
section
/-! the picture: widths w, cells p of the columns, words W, which column is off (dc) and by what (dm) -/
def hs_up {α : Type} (f : Nat → α) (e : Nat) (v : α) : Nat → α := fun x => if x = e then v else f x
theorem hs_up_s {α : Type} (f : Nat → α) (e : Nat) (v : α) : hs_up f e v e = v := if_pos rfl
theorem hs_up_n {α : Type} (f : Nat → α) {e x : Nat} (v : α) (h : x ≠ e) : hs_up f e v x = f x := if_neg h
theorem hs_up_id {α : Type} {f : Nat → α} {e : Nat} {v : α} (h : f e = v) : hs_up f e v = f := by
  funext x
  by_cases hx : x = e
  · rw [hx, hs_up_s, h]
  · rw [hs_up_n f v hx]
/-- widths, columns and taken cells: every extent has its own cells, on different disks, and what is taken is some extent's -/
def hs_geo (w : Nat → Nat) (p : Nat → Nat → Nat) (a2 a3 a5 : Nat → Int32) : Prop :=
  (∀ e, e < 8 → w e ≤ 4 ∧ a3 e = nI (w e)) ∧
  (∀ e c, e < 8 → 0 < w e → c ≤ w e → a5 (e * 5 + c) = nI (p e c) ∧ p e c < 60 ∧ a2 (p e c) = 1) ∧
  (∀ e c c', e < 8 → 0 < w e → c ≤ w e → c' ≤ w e → p e c / 12 = p e c' / 12 → c = c') ∧
  (∀ e e' c c', e < 8 → e' < 8 → 0 < w e → 0 < w e' → c ≤ w e → c' ≤ w e' → p e c = p e' c' → e = e') ∧
  (∀ j, j < 60 → ¬ a2 j = 0 → ∃ e c, e < 8 ∧ 0 < w e ∧ c ≤ w e ∧ p e c = j)
/-- what stands in the cells, and the check words -/
def hs_con (w : Nat → Nat) (p : Nat → Nat → Nat) (W : Nat → Nat → Int32) (dc : Nat → Nat) (dm : Nat → Int32) (a1 a4 : Nat → Int32) : Prop :=
  ∀ e, e < 8 → 0 < w e → dc e ≤ w e ∧ a4 e = hs_ck (W e) (w e) ∧ ∀ c, c ≤ w e → a1 (p e c) = hs_cv (W e) (w e) (dc e) (dm e) c
theorem hs_get {w : Nat → Nat} {p : Nat → Nat → Nat} {W : Nat → Nat → Int32} {dc : Nat → Nat} {dm : Nat → Int32} {a1 a2 a3 a4 a5 : Nat → Int32} {e : Nat} (g : hs_geo w p a2 a3 a5) (k : hs_con w p W dc dm a1 a4) (he : e < 8) (hw : 0 < w e) : hs_ex a1 a3 a4 a5 e (w e) (W e) (p e) (dc e) (dm e) :=
  ⟨hw, (g.1 e he).1, (k e he hw).1, (g.1 e he).2, (k e he hw).2.1, fun c hc => ⟨(g.2.1 e c he hw hc).1, (g.2.1 e c he hw hc).2.1⟩, (k e he hw).2.2⟩
theorem hs_pig : ∀ (n : Nat) (f : Nat → Nat), (∀ i, i < n + 1 → f i < n) → ∃ i j, i < j ∧ j < n + 1 ∧ f i = f j
  | 0, f, h => absurd (h 0 (by omega)) (by omega)
  | n + 1, f, h => by
    by_cases hx : ∃ i, i < n + 1 ∧ f i = f (n + 1)
    · obtain ⟨i, hi, e⟩ := hx
      exact ⟨i, n + 1, hi, by omega, e⟩
    · have hne : ∀ i, i < n + 1 → f i ≠ f (n + 1) := fun i hi e => hx ⟨i, hi, e⟩
      have hv := h (n + 1) (by omega)
      obtain ⟨i, j, hij, hj, e⟩ := hs_pig n (fun i => if f i < f (n + 1) then f i else f i - 1) (by
        intro i hi
        have h1 := hne i hi
        have h2 := h i (by omega)
        split <;> omega)
      refine ⟨i, j, hij, by omega, ?_⟩
      have h1 := hne i (by omega)
      have h2 := hne j (by omega)
      split at e <;> split at e <;> omega
/-- every disk has a free row -/
theorem hs_room {w : Nat → Nat} {p : Nat → Nat → Nat} {a2 a3 a5 : Nat → Int32} (g : hs_geo w p a2 a3 a5) {d : Nat} (hd : d < 5) : ∃ r, r < 12 ∧ a2 (d * 12 + r) = 0 := by
  obtain ⟨g1, g2, g3, g4, g5⟩ := g
  refine Classical.byContradiction (fun hno => ?_)
  have hall : ∀ r, ∃ e, r < 12 → e < 8 ∧ ∃ c, 0 < w e ∧ c ≤ w e ∧ p e c = d * 12 + r := by
    intro r
    by_cases hr : r < 12
    · obtain ⟨e, c, h1, h2, h3, h4⟩ := g5 (d * 12 + r) (by omega) (fun z => hno ⟨r, hr, z⟩)
      exact ⟨e, fun _ => ⟨h1, c, h2, h3, h4⟩⟩
    · exact ⟨0, fun z => absurd z hr⟩
  obtain ⟨f, hf⟩ := Classical.skolem.mp hall
  obtain ⟨i, j, hij, hj, e⟩ := hs_pig 8 f (fun i hi => (hf i (by omega)).1)
  obtain ⟨h1, c, h2, h3, h4⟩ := hf i (by omega)
  obtain ⟨h1', c', h2', h3', h4'⟩ := hf j (by omega)
  rw [← e] at h2' h3' h4'
  have hc := g3 (f i) c c' h1 h2 h3 h3' (by rw [h4, h4']; omega)
  rw [hc] at h4
  omega
/-- two columns of one extent lie in two cells -/
theorem hs_apart {w : Nat → Nat} {p : Nat → Nat → Nat} {a2 a3 a5 : Nat → Int32} (g : hs_geo w p a2 a3 a5) {e c c' : Nat} (he : e < 8) (hw : 0 < w e) (hc : c ≤ w e) (hc' : c' ≤ w e) (h : c ≠ c') : p e c ≠ p e c' :=
  fun z => h (g.2.2.1 e c c' he hw hc hc' (by rw [z]))
theorem hs_apart2 {w : Nat → Nat} {p : Nat → Nat → Nat} {a2 a3 a5 : Nat → Int32} (g : hs_geo w p a2 a3 a5) {e x c c' : Nat} (he : e < 8) (hx : x < 8) (hw : 0 < w e) (hwx : 0 < w x) (hc : c ≤ w e) (hc' : c' ≤ w x) (h : x ≠ e) : p x c' ≠ p e c :=
  fun z => h (g.2.2.2.1 x e c' c hx he hwx hw hc' hc z)
theorem hs_10 {x : Int32} (h : x = 1) : ¬ x = 0 := by
  rw [h]
  decide
/-- a new stripe of n + 1 columns at the cells q, the old one of the extent given up -/
theorem hs_geo_place {w : Nat → Nat} {p : Nat → Nat → Nat} {a2 a3 a5 b2 b3 b5 : Nat → Int32} {e n : Nat} {q : Nat → Nat} (g : hs_geo w p a2 a3 a5) (he : e < 8) (hn1 : 1 ≤ n) (hn : n ≤ 4)
    (hq : ∀ c, c ≤ n → q c < 60 ∧ a2 (q c) = 0) (hqd : ∀ c c', c ≤ n → c' ≤ n → q c / 12 = q c' / 12 → c = c')
    (b2q : ∀ c, c ≤ n → b2 (q c) = 1) (b2o : ∀ c, 0 < w e → c ≤ w e → b2 (p e c) = 0)
    (b2n : ∀ j, (∀ c, c ≤ n → q c ≠ j) → (∀ c, 0 < w e → c ≤ w e → p e c ≠ j) → b2 j = a2 j)
    (b3e : b3 e = nI n) (b3n : ∀ x, x ≠ e → b3 x = a3 x)
    (b5e : ∀ c, c ≤ n → b5 (e * 5 + c) = nI (q c)) (b5n : ∀ x c, x ≠ e → c ≤ 4 → b5 (x * 5 + c) = a5 (x * 5 + c)) :
    hs_geo (hs_up w e n) (hs_up p e q) b2 b3 b5 := by
  have g' := g
  obtain ⟨g1, g2, g3, g4, g5⟩ := g
  have hpq : ∀ x c c', x < 8 → 0 < w x → c ≤ w x → c' ≤ n → q c' ≠ p x c := by
    intro x c c' hx hwx hc hc' z
    have h1 := (hq c' hc').2
    rw [z] at h1
    exact hs_10 (g2 x c hx hwx hc).2.2 h1
  refine ⟨?_, ?_, ?_, ?_, ?_⟩
  · intro x hx
    by_cases hxe : x = e
    · subst hxe
      rw [hs_up_s]
      exact ⟨hn, b3e⟩
    · rw [hs_up_n w n hxe, b3n x hxe]
      exact g1 x hx
  · intro x c hx hwx hc
    by_cases hxe : x = e
    · subst hxe
      rw [hs_up_s] at hc
      rw [hs_up_s]
      exact ⟨b5e c hc, (hq c hc).1, b2q c hc⟩
    · rw [hs_up_n w n hxe] at hc hwx
      rw [hs_up_n p q hxe]
      have h2 := g2 x c hx hwx hc
      have h4 := (g1 x hx).1
      rw [b5n x c hxe (by omega)]
      refine ⟨h2.1, h2.2.1, ?_⟩
      rw [b2n (p x c) (fun c' hc' => hpq x c c' hx hwx hc hc') (fun c' hw' hc' z => hs_apart2 g' he hx hw' hwx hc' hc hxe z.symm)]
      exact h2.2.2
  · intro x c c' hx hwx hc hc' z
    by_cases hxe : x = e
    · subst hxe
      rw [hs_up_s] at hc hc' z
      exact hqd c c' hc hc' z
    · rw [hs_up_n w n hxe] at hc hc' hwx
      rw [hs_up_n p q hxe] at z
      exact g3 x c c' hx hwx hc hc' z
  · intro x y c c' hx hy hwx hwy hc hc' z
    by_cases hxe : x = e
    · by_cases hye : y = e
      · rw [hxe, hye]
      · subst hxe
        rw [hs_up_n w n hye] at hc' hwy
        rw [hs_up_s] at hc
        rw [hs_up_s, hs_up_n p q hye] at z
        exact absurd z (hpq y c' c hy hwy hc' hc)
    · by_cases hye : y = e
      · subst hye
        rw [hs_up_n w n hxe] at hc hwx
        rw [hs_up_s] at hc'
        rw [hs_up_s, hs_up_n p q hxe] at z
        exact absurd z.symm (hpq x c c' hx hwx hc hc')
      · rw [hs_up_n w n hxe] at hc hwx
        rw [hs_up_n w n hye] at hc' hwy
        rw [hs_up_n p q hxe, hs_up_n p q hye] at z
        exact g4 x y c c' hx hy hwx hwy hc hc' z
  · intro j hj hb
    by_cases hjq : ∃ c, c ≤ n ∧ q c = j
    · obtain ⟨c, hc, hcj⟩ := hjq
      refine ⟨e, c, he, ?_, ?_, ?_⟩
      · rw [hs_up_s]; omega
      · rw [hs_up_s]; exact hc
      · rw [hs_up_s]; exact hcj
    · by_cases hjp : ∃ c, 0 < w e ∧ c ≤ w e ∧ p e c = j
      · obtain ⟨c, h1, h2, h3⟩ := hjp
        rw [← h3] at hb
        exact absurd (b2o c h1 h2) hb
      · rw [b2n j (fun c hc z => hjq ⟨c, hc, z⟩) (fun c h1 h2 z => hjp ⟨c, h1, h2, z⟩)] at hb
        obtain ⟨x, c, h1, h2, h3, h4⟩ := g5 j hj hb
        have hxe : x ≠ e := by
          intro z
          subst z
          exact hjp ⟨c, h2, h3, h4⟩
        refine ⟨x, c, h1, ?_, ?_, ?_⟩
        · rw [hs_up_n w n hxe]; exact h2
        · rw [hs_up_n w n hxe]; exact h3
        · rw [hs_up_n p q hxe]; exact h4
/-- an extent given up -/
theorem hs_geo_free {w : Nat → Nat} {p : Nat → Nat → Nat} {a2 a3 a5 b2 b3 : Nat → Int32} {e : Nat} (g : hs_geo w p a2 a3 a5) (he : e < 8)
    (b2o : ∀ c, 0 < w e → c ≤ w e → b2 (p e c) = 0) (b2n : ∀ j, (∀ c, 0 < w e → c ≤ w e → p e c ≠ j) → b2 j = a2 j)
    (b3e : b3 e = 0) (b3n : ∀ x, x ≠ e → b3 x = a3 x) :
    hs_geo (hs_up w e 0) p b2 b3 a5 := by
  have g' := g
  obtain ⟨g1, g2, g3, g4, g5⟩ := g
  have hne : ∀ x, 0 < hs_up w e 0 x → x ≠ e ∧ hs_up w e 0 x = w x := by
    intro x h
    have hxe : x ≠ e := by
      intro z
      rw [z, hs_up_s] at h
      omega
    exact ⟨hxe, hs_up_n w 0 hxe⟩
  refine ⟨?_, ?_, ?_, ?_, ?_⟩
  · intro x hx
    by_cases hxe : x = e
    · subst hxe
      rw [hs_up_s]
      exact ⟨by omega, b3e⟩
    · rw [hs_up_n w 0 hxe, b3n x hxe]
      exact g1 x hx
  · intro x c hx hwx hc
    obtain ⟨hxe, hw⟩ := hne x hwx
    rw [hw] at hwx hc
    have h2 := g2 x c hx hwx hc
    refine ⟨h2.1, h2.2.1, ?_⟩
    rw [b2n (p x c) (fun c' hw' hc' z => hs_apart2 g' he hx hw' hwx hc' hc hxe z.symm)]
    exact h2.2.2
  · intro x c c' hx hwx hc hc' z
    obtain ⟨hxe, hw⟩ := hne x hwx
    rw [hw] at hwx hc hc'
    exact g3 x c c' hx hwx hc hc' z
  · intro x y c c' hx hy hwx hwy hc hc' z
    obtain ⟨hxe, hw⟩ := hne x hwx
    obtain ⟨hye, hw'⟩ := hne y hwy
    rw [hw] at hwx hc
    rw [hw'] at hwy hc'
    exact g4 x y c c' hx hy hwx hwy hc hc' z
  · intro j hj hb
    by_cases hjp : ∃ c, 0 < w e ∧ c ≤ w e ∧ p e c = j
    · obtain ⟨c, h1, h2, h3⟩ := hjp
      rw [← h3] at hb
      exact absurd (b2o c h1 h2) hb
    · rw [b2n j (fun c h1 h2 z => hjp ⟨c, h1, h2, z⟩)] at hb
      obtain ⟨x, c, h1, h2, h3, h4⟩ := g5 j hj hb
      have hxe : x ≠ e := by
        intro z
        subst z
        exact hjp ⟨c, h2, h3, h4⟩
      refine ⟨x, c, h1, ?_, ?_, h4⟩
      · rw [hs_up_n w 0 hxe]; exact h2
      · rw [hs_up_n w 0 hxe]; exact h3
theorem hs_con_free {w : Nat → Nat} {p : Nat → Nat → Nat} {W : Nat → Nat → Int32} {dc : Nat → Nat} {dm : Nat → Int32} {a1 a4 : Nat → Int32} (e : Nat) (k : hs_con w p W dc dm a1 a4) : hs_con (hs_up w e 0) p W dc dm a1 a4 := by
  intro x hx hwx
  have hxe : x ≠ e := by
    intro z
    rw [z, hs_up_s] at hwx
    omega
  rw [hs_up_n w 0 hxe] at hwx
  rw [hs_up_n w 0 hxe]
  exact k x hx hwx
theorem hs_con_place {w : Nat → Nat} {p : Nat → Nat → Nat} {W : Nat → Nat → Int32} {dc : Nat → Nat} {dm : Nat → Int32} {a1 a2 a3 a4 a5 b1 : Nat → Int32} {e n : Nat} {q : Nat → Nat} {V : Nat → Int32} (g : hs_geo w p a2 a3 a5) (k : hs_con w p W dc dm a1 a4)
    (hq : ∀ c, c ≤ n → a2 (q c) = 0) (b1q : ∀ c, c ≤ n → b1 (q c) = hs_rt V n c) (b1n : ∀ j, (∀ c, c ≤ n → q c ≠ j) → b1 j = a1 j) :
    hs_con (hs_up w e n) (hs_up p e q) (hs_up W e V) (hs_up dc e 0) (hs_up dm e 0) b1 (upd a4 e (hs_ck V n)) := by
  intro x hx hwx
  by_cases hxe : x = e
  · subst hxe
    rw [hs_up_s, hs_up_s, hs_up_s, hs_up_s, hs_up_s, pk_us]
    refine ⟨by omega, rfl, fun c hc => ?_⟩
    rw [b1q c hc, hs_cv_0]
  · rw [hs_up_n w n hxe] at hwx
    rw [hs_up_n w n hxe, hs_up_n p q hxe, hs_up_n W V hxe, hs_up_n dc 0 hxe, hs_up_n dm 0 hxe, pk_un hxe]
    obtain ⟨k1, k2, k3⟩ := k x hx hwx
    refine ⟨k1, k2, fun c hc => ?_⟩
    rw [b1n (p x c) (fun c' hc' z => ?_)]
    · exact k3 c hc
    · have h1 := hq c' hc'
      rw [z] at h1
      exact hs_10 (g.2.1 x c hx hwx hc).2.2 h1
/-- the column that is off, written again -/
theorem hs_con_mend {w : Nat → Nat} {p : Nat → Nat → Nat} {W : Nat → Nat → Int32} {dc : Nat → Nat} {dm : Nat → Int32} {a1 a2 a3 a4 a5 : Nat → Int32} {e : Nat} (g : hs_geo w p a2 a3 a5) (k : hs_con w p W dc dm a1 a4) (he : e < 8) (hw : 0 < w e) :
    hs_con w p W dc (hs_up dm e 0) (upd a1 (p e (dc e)) (hs_rt (W e) (w e) (dc e))) a4 := by
  intro x hx hwx
  obtain ⟨k1, k2, k3⟩ := k x hx hwx
  have hd := (k e he hw).1
  refine ⟨k1, k2, fun c hc => ?_⟩
  by_cases hxe : x = e
  · subst hxe
    rw [hs_up_s, hs_cv_0]
    by_cases hcd : c = dc x
    · rw [hcd, pk_us]
    · rw [pk_un (hs_apart g hx hwx hc hd hcd), k3 c hc, hs_cv_n hcd]
  · rw [hs_up_n dm 0 hxe, pk_un (hs_apart2 g he hx hw hwx hd hc hxe)]
    exact k3 c hc
/-- a column is hit by a mask -/
theorem hs_con_hit {w : Nat → Nat} {p : Nat → Nat → Nat} {W : Nat → Nat → Int32} {dc : Nat → Nat} {dm : Nat → Int32} {a1 a2 a3 a4 a5 : Nat → Int32} {e c : Nat} (m : Int32) (g : hs_geo w p a2 a3 a5) (k : hs_con w p W dc dm a1 a4) (he : e < 8) (hw : 0 < w e) (hc : c ≤ w e) (hd : dm e = 0 ∨ dc e = c) :
    hs_con w p W (hs_up dc e c) (hs_up dm e (dm e ^^^ m)) (upd a1 (p e c) (a1 (p e c) ^^^ m)) a4 := by
  intro x hx hwx
  obtain ⟨k1, k2, k3⟩ := k x hx hwx
  by_cases hxe : x = e
  · subst hxe
    rw [hs_up_s, hs_up_s]
    refine ⟨hc, k2, fun c' hc' => ?_⟩
    by_cases hcd : c' = c
    · rw [hcd, pk_us, k3 c hc]
      unfold hs_cv
      rw [if_pos rfl, Int32.xor_assoc]
      rcases hd with hd | hd
      · rw [hd, ite_self]
      · rw [if_pos hd.symm]
    · rw [pk_un (hs_apart g hx hwx hc' hc hcd), k3 c' hc', hs_cv_n hcd]
      rcases hd with hd | hd
      · rw [hd, hs_cv_0]
      · rw [hs_cv_n (by rw [hd]; exact hcd)]
  · rw [hs_up_n dc c hxe, hs_up_n dm _ hxe]
    refine ⟨k1, k2, fun c' hc' => ?_⟩
    rw [pk_un (hs_apart2 g he hx hw hwx hc hc' hxe)]
    exact k3 c' hc'
/-- only the extents in use count -/
theorem hs_con_dm {w : Nat → Nat} {p : Nat → Nat → Nat} {W : Nat → Nat → Int32} {dc : Nat → Nat} {dm dm' : Nat → Int32} {a1 a4 : Nat → Int32} (k : hs_con w p W dc dm a1 a4) (h : ∀ e, e < 8 → 0 < w e → dm e = dm' e) : hs_con w p W dc dm' a1 a4 := by
  intro x hx hwx
  rw [← h x hx hwx]
  exact k x hx hwx
end
section
/-! giving up a stripe, free rows, choosing cells, placing a stripe -/
theorem hs_free {post : St1 → Prop} {f0 f1 f2 : Int32} {a1 a2 a3 a4 a5 a6 a7 a8 : Nat → Int32} {e n : Nat} {p : Nat → Nat} (he : e < 8) (hn : n ≤ 4) (h3 : a3 e = nI n) (h5 : 0 < n → ∀ c, c ≤ n → a5 (e * 5 + c) = nI (p c) ∧ p c < 60)
    (H : ∀ b2 b3 : Nat → Int32, (∀ c, 0 < n → c ≤ n → b2 (p c) = 0) → (∀ j, (∀ c, 0 < n → c ≤ n → p c ≠ j) → b2 j = a2 j) → b3 e = 0 → (∀ x, x ≠ e → b3 x = a3 x) → post (f0, f1, f2, a1, b2, b3, a4, a5, a6, a7, a8)) :
    wpX_free post (f0, f1, f2, a1, a2, a3, a4, a5, a6, a7, a8) (nI e) := by
  have hc : a3 (nI e).toNatClampNeg = nI n := by rw [nI_clamp (show e < 2 ^ 31 by omega), h3]
  unfold wpX_free
  dsimp only
  refine And.intro (pk_in e 8 he) ?_
  rw [hc]
  refine pk_eq n 0 (fun z => ?_) (fun z => ?_)
  · refine H a2 a3 (fun c h _ => absurd h (by omega)) (fun j _ => rfl) ?_ (fun x _ => rfl)
    rw [h3, z]
    rfl
  · have h5 := h5 (by omega)
    refine pk_loop (fun k i s => wX_free_12 post (nI e) f0 f1 f2 k (nI i) a1 s a3 a4 a5 a6 a7 a8) (fun i s => (∀ c, c < i → s (p c) = 0) ∧ (∀ j, (∀ c, c < i → p c ≠ j) → s j = a2 j)) (n + 1) 0 a2 (by omega) ⟨fun c hc => absurd hc (by omega), fun j _ => rfl⟩ ?_ ?_
    · intro k s hs
      refine And.intro (pk_in e 8 he) (pk_lt n (n + 1) (fun _ => ⟨pk_in e 8 he, ?_⟩) (fun z => absurd z (by omega)) hc)
      rw [nI_clamp (show e < 2 ^ 31 by omega)]
      refine nm_e (H s (upd a3 e 0) (fun c _ hc => hs.1 c (by omega)) (fun j hj => hs.2 j (fun c hc => hj c (by omega) (by omega))) pk_us (fun x hx => pk_un hx))
    · intro k i s hi hs hw
      have hp := h5 i (by omega)
      have h5' : a5 (nI e * 5 + nI i).toNatClampNeg = nI (p i) := by rw [hs_i5, nI_clamp (show e * 5 + i < 2 ^ 31 by omega), hp.1]
      refine And.intro (pk_in e 8 he) (pk_lt n i (fun z => absurd z (by omega)) (fun _ => ⟨pk_in (e * 5 + i) 40 (by omega) (hs_i5 e i), pk_in (p i) 60 hp.2 h5', ?_⟩) hc)
      rw [h5', nI_clamp (show p i < 2 ^ 31 by omega)]
      refine nm_e (nm_r (nI_1 i) (hw _ ⟨fun c hc => ?_, fun j hj => ?_⟩))
      · by_cases ec : p c = p i
        · rw [ec, pk_us]
        · rw [pk_un ec]
          exact hs.1 c (by
            have hci : c ≠ i := fun z => ec (by rw [z])
            omega)
      · rw [pk_un (fun z => hj i (by omega) z.symm)]
        exact hs.2 j (fun c hc => hj c (by omega))
theorem hs_freeRow {post : Int32 → Prop} {f0 f1 f2 : Int32} {a1 a2 a3 a4 a5 a6 a7 a8 : Nat → Int32} {d : Nat} (hd : d < 5) (hr : ∃ r, r < 12 ∧ a2 (d * 12 + r) = 0) (H : ∀ r, r < 12 → a2 (d * 12 + r) = 0 → post (nI r)) :
    wpX_freeRow post (f0, f1, f2, a1, a2, a3, a4, a5, a6, a7, a8) (nI d) := by
  obtain ⟨r, ⟨h1, h2⟩, h3⟩ := pk_least (fun r => r < 12 ∧ a2 (d * 12 + r) = 0) hr
  show ∃ fu, wX_freeRow_2 post (nI d) f0 f1 f2 a1 a2 a3 a4 a5 a6 a7 a8 fu (nI 0)
  refine pk_loop (σ := Unit) (fun k i _ => wX_freeRow_2 post (nI d) f0 f1 f2 a1 a2 a3 a4 a5 a6 a7 a8 k (nI i)) (fun _ _ => True) r 0 () (by omega) trivial ?_ ?_
  · intro k s _
    refine pk_le 12 r (fun z => absurd z (by omega)) (fun _ => ⟨pk_in (d * 12 + r) 60 (by omega) (hs_i12 d r), ?_⟩)
    rw [hs_i12, nI_clamp (show d * 12 + r < 2 ^ 31 by omega)]
    exact br_t h2 (H r h1 h2)
  · intro k i s hi _ hw
    refine pk_le 12 i (fun z => absurd z (by omega)) (fun _ => ⟨pk_in (d * 12 + i) 60 (by omega) (hs_i12 d i), ?_⟩)
    rw [hs_i12, nI_clamp (show d * 12 + i < 2 ^ 31 by omega)]
    exact br_f (fun z => h3 i hi ⟨by omega, z⟩) (nm_r (nI_1 i) (hw () trivial))
theorem hs_freeRows {post : Int32 → Prop} {f0 f1 f2 : Int32} {a1 a2 a3 a4 a5 a6 a7 a8 : Nat → Int32} {d : Nat} (hd : d < 5) (hr : ∃ r, r < 12 ∧ a2 (d * 12 + r) = 0) (H : ∀ n, 0 < n → n ≤ 12 → post (nI n)) :
    wpX_freeRows post (f0, f1, f2, a1, a2, a3, a4, a5, a6, a7, a8) (nI d) := by
  obtain ⟨r, h1, h2⟩ := hr
  show ∃ fu, wX_freeRows_4 post (nI d) f0 f1 f2 a1 a2 a3 a4 a5 a6 a7 a8 fu (nI 0) (nI 0)
  refine pk_loop (fun k i s => wX_freeRows_4 post (nI d) f0 f1 f2 a1 a2 a3 a4 a5 a6 a7 a8 k (nI s) (nI i)) (fun i s => s ≤ i ∧ (r < i → 0 < s)) 12 0 0 (by omega) ⟨by omega, fun z => absurd z (by omega)⟩ ?_ ?_
  · intro k s hs
    exact pk_le 12 12 (fun _ => H s (hs.2 h1) hs.1) (fun z => absurd z (by omega))
  · intro k i s hi hs hw
    refine pk_le 12 i (fun z => absurd z (by omega)) (fun _ => ⟨pk_in (d * 12 + i) 60 (by omega) (hs_i12 d i), ?_⟩)
    rw [hs_i12, nI_clamp (show d * 12 + i < 2 ^ 31 by omega)]
    refine br_c (fun z => nm_r (nI_1 s) (nm_r (nI_1 i) (hw (s + 1) ⟨by omega, fun _ => by omega⟩))) (fun z => nm_r (nI_1 i) (hw s ⟨by omega, fun hri => hs.2 ?_⟩))
    have hri' : r ≠ i := fun y => z (by rw [← y]; exact h2)
    omega
/-! the disks in use, as a mask -/
def hs_pc (u : Nat) : Nat := u % 2 + u / 2 % 2 + u / 4 % 2 + u / 8 % 2 + u / 16 % 2
theorem hs_bit : ∀ u, u < 32 → ∀ d, d < 5 → (((nI u >>> (nI d &&& 31)) &&& 1) = 0 ↔ u.testBit d = false) := by decide +kernel
theorem hs_mask : ∀ u, u < 32 → ∀ d, d < 5 → u.testBit d = false → (nI u ||| ((1 : Int32) <<< (nI d &&& 31))) = nI (u ||| 2 ^ d) ∧ (u ||| 2 ^ d) < 32 ∧ hs_pc (u ||| 2 ^ d) = hs_pc u + 1 ∧ ∀ x, x < 5 → (u ||| 2 ^ d).testBit x = (u.testBit x || decide (x = d)) := by decide +kernel
theorem hs_full : ∀ u, u < 32 → (∀ d, d < 5 → u.testBit d = true) → hs_pc u = 5 := by decide +kernel
theorem hs_choose18 {post : St1 → Prop} {J4 : Int32 → Int32 → (Nat → Int32) → (Nat → Int32) → (Nat → Int32) → (Nat → Int32) → (Nat → Int32) → (Nat → Int32) → (Nat → Int32) → (Nat → Int32) → Prop} {x1 f1 f2 : Int32} {a1 a2 a3 a4 a5 a6 a7 a8 : Nat → Int32} {u c tn : Nat} (hu : u < 32) (hpc : hs_pc u < 5) (hc : c < 5) (htn : tn < 5) (hr : ∀ d, d < 5 → ∃ r, r < 12 ∧ a2 (d * 12 + r) = 0)
    (H : ∀ d r, d < 5 → r < 12 → u.testBit d = false → a2 (d * 12 + r) = 0 → J4 (nI (u ||| 2 ^ d)) (nI (c + 1)) a1 a2 a3 a4 a5 a6 a7 (upd a8 c (nI (d * 12 + r)))) :
    ∃ fu, wX_choose_18 post J4 x1 (nI u) (nI c) (nI tn) f1 f2 a1 a2 a3 a4 a5 a6 a7 a8 fu (-1) 0 0 := by
  have h84 : ∀ d, d < 5 → u.testBit d = false → wX_choose_84 post J4 x1 (nI u) (nI c) (nI d) (nI tn) f1 f2 a1 a2 a3 a4 a5 a6 a7 a8 := by
    intro d hd hb
    unfold wX_choose_84
    refine hs_freeRow hd (hr d hd) (fun r h1 h2 => ⟨pk_in c 5 hc, ?_⟩)
    rw [nI_clamp (show c < 2 ^ 31 by omega), hs_i12, (hs_mask u hu d hd hb).1]
    exact nm_e (nm_e (nm_r (nI_1 c) (H d r hd h1 hb h2)))
  refine pk_loop (fun k i (s : Int32 × Int32) => wX_choose_18 post J4 x1 (nI u) (nI c) (nI tn) f1 f2 a1 a2 a3 a4 a5 a6 a7 a8 k s.1 s.2 (nI i)) (fun i s => (s = (-1, 0) ∧ ∀ k, k < i → u.testBit ((tn + k) % 5) = true) ∨ (∃ d m : Nat, s = (nI d, nI m) ∧ d < 5 ∧ m ≤ 12 ∧ u.testBit d = false)) 5 0 (-1, 0) (by omega) (Or.inl ⟨rfl, fun k hk => absurd hk (by omega)⟩) ?_ ?_
  · intro k s hs
    rcases hs with ⟨hs, hall⟩ | ⟨d, m, hs, hd, hm, hb⟩
    · have hf := hs_full u hu (fun d hd => by
        have h1 := hall ((d + 5 - tn) % 5) (by omega)
        rw [show (tn + (d + 5 - tn) % 5) % 5 = d by omega] at h1
        exact h1)
      omega
    · subst hs
      exact pk_le 5 5 (fun _ => br_t (nI_pos' (by omega)) (h84 d hd hb)) (fun z => absurd z (by omega))
  · intro k i s hi hs hw
    refine pk_le 5 i (fun z => absurd z (by omega)) (fun _ => ⟨by decide, ?_⟩)
    have e7 : nI tn + nI i - (nI tn + nI i) / 5 * 5 = nI ((tn + i) % 5) := by
      rw [nI_add]
      exact pk_rem (d := 5) (by omega) (by omega) (by omega)
    refine nm_r e7 ?_
    have hd5 : (tn + i) % 5 < 5 := by omega
    refine hs_freeRows hd5 (hr _ hd5) (fun n hn1 hn2 => ?_)
    refine br_c (fun z => ?_) (fun z => nm_r (nI_1 i) (hw s ?_))
    · have hb := (hs_bit u hu _ hd5).mp z
      refine br_c (fun z2 => nm_r (nI_1 i) (hw s ?_)) (fun z2 => nm_r (nI_1 i) (hw (nI ((tn + i) % 5), nI n) (Or.inr ⟨_, n, rfl, hd5, hn2, hb⟩)))
      rcases hs with ⟨hs, hall⟩ | hs
      · subst hs
        exact absurd z2 (nI_nle hn1 (by omega))
      · exact Or.inr hs
    · rcases hs with ⟨hs, hall⟩ | hs
      · refine Or.inl ⟨hs, fun k hk => ?_⟩
        by_cases hki : k = i
        · rw [hki]
          cases hb : u.testBit ((tn + i) % 5)
          · exact absurd ((hs_bit u hu _ hd5).mpr hb) z
          · rfl
        · exact hall k (by omega)
      · exact Or.inr hs
theorem hs_choose {post : St1 → Prop} {f1 f2 : Int32} {a1 a2 a3 a4 a5 a6 a7 a8 : Nat → Int32} {n tn : Nat} (hn : n ≤ 5) (htn : tn < 5) (hr : ∀ d, d < 5 → ∃ r, r < 12 ∧ a2 (d * 12 + r) = 0)
    (H : ∀ (tn' : Nat) (b8 : Nat → Int32) (q : Nat → Nat), tn' < 5 → (∀ c, c < n → b8 c = nI (q c) ∧ q c < 60 ∧ a2 (q c) = 0) → (∀ c c', c < n → c' < n → q c / 12 = q c' / 12 → c = c') → post (nI tn', f1, f2, a1, a2, a3, a4, a5, a6, a7, b8)) :
    wpX_choose post (nI tn, f1, f2, a1, a2, a3, a4, a5, a6, a7, a8) (nI n) := by
  show ∃ fu, wX_choose_4 post (nI n) (nI tn) f1 f2 fu (nI 0) (nI 0) a1 a2 a3 a4 a5 a6 a7 a8
  refine pk_loop (fun k i (s : Int32 × (Nat → Int32)) => wX_choose_4 post (nI n) (nI tn) f1 f2 k s.1 (nI i) a1 a2 a3 a4 a5 a6 a7 s.2) (fun i s => ∃ (u : Nat) (q : Nat → Nat), s.1 = nI u ∧ u < 32 ∧ hs_pc u = i ∧ (∀ c, c < i → s.2 c = nI (q c) ∧ q c < 60 ∧ a2 (q c) = 0 ∧ u.testBit (q c / 12) = true) ∧ (∀ c c', c < i → c' < i → q c / 12 = q c' / 12 → c = c')) n 0 (nI 0, a8) (by omega) ⟨0, fun _ => 0, rfl, by omega, rfl, fun c hc => absurd hc (by omega), fun c c' hc => absurd hc (by omega)⟩ ?_ ?_
  · intro k s hs
    obtain ⟨u, q, s1, hu, hp, hq, hd⟩ := hs
    refine pk_le n n (fun _ => ?_) (fun z => absurd z (by omega))
    have hq' : ∀ c, c < n → s.2 c = nI (q c) ∧ q c < 60 ∧ a2 (q c) = 0 := fun c hc => ⟨(hq c hc).1, (hq c hc).2.1, (hq c hc).2.2.1⟩
    refine pk_eq (tn + 1) 5 (fun z => H 0 s.2 q (by omega) hq' hd) (fun z => nm_r (nI_1 tn) (H (tn + 1) s.2 q (by omega) hq' hd)) (nI_1 tn)
  · intro k i s hi hs hw
    obtain ⟨u, q, s1, hu, hp, hq, hd⟩ := hs
    obtain ⟨x, b8⟩ := s
    dsimp only at s1 hq
    subst s1
    refine pk_le n i (fun z => absurd z (by omega)) (fun _ => ?_)
    refine hs_choose18 hu (by omega) (by omega) htn hr (fun d r hd5 hr12 hb hz => ?_)
    obtain ⟨m1, m2, m3, m4⟩ := hs_mask u hu d hd5 hb
    have hne : ∀ c, c < i → ¬ q c / 12 = d := by
      intro c hc z
      have h1 := (hq c hc).2.2.2
      rw [z, hb] at h1
      exact absurd h1 (by decide)
    refine hw (nI (u ||| 2 ^ d), upd b8 i (nI (d * 12 + r))) ⟨u ||| 2 ^ d, hs_up q i (d * 12 + r), rfl, m2, by omega, fun c hc => ?_, fun c c' hc hc' z => ?_⟩
    · dsimp only
      by_cases hci : c = i
      · rw [hci, pk_us, hs_up_s]
        refine ⟨rfl, by omega, hz, ?_⟩
        rw [show (d * 12 + r) / 12 = d by omega, m4 d hd5, decide_eq_true (show d = d from rfl), Bool.or_true]
      · rw [pk_un hci, hs_up_n q _ hci]
        obtain ⟨h1, h2, h3, h4⟩ := hq c (by omega)
        refine ⟨h1, h2, h3, ?_⟩
        rw [m4 (q c / 12) (by omega), h4, Bool.true_or]
    · by_cases hci : c = i
      · by_cases hci' : c' = i
        · omega
        · rw [hci, hs_up_s, hs_up_n q _ hci', show (d * 12 + r) / 12 = d by omega] at z
          exact absurd z.symm (hne c' (by omega))
      · by_cases hci' : c' = i
        · rw [hci', hs_up_s, hs_up_n q _ hci, show (d * 12 + r) / 12 = d by omega] at z
          exact absurd z (hne c (by omega))
        · rw [hs_up_n q _ hci, hs_up_n q _ hci'] at z
          exact hd c c' (by omega) (by omega) z
/-- place: the words at hand become the stripe of the extent -/
theorem hs_place {post : St1 → Prop} {f1 f2 : Int32} {a1 a2 a3 a4 a5 a6 a7 a8 : Nat → Int32} {w : Nat → Nat} {p : Nat → Nat → Nat} {W : Nat → Nat → Int32} {dc : Nat → Nat} {dm : Nat → Int32} {e n tn : Nat} {V : Nat → Int32} (g : hs_geo w p a2 a3 a5) (k : hs_con w p W dc dm a1 a4) (he : e < 8) (hn1 : 1 ≤ n) (hn : n ≤ 4) (htn : tn < 5) (hV : ∀ j, j < n → a7 j = V j)
    (H : ∀ (tn' : Nat) (q : Nat → Nat) (b1 b2 b3 b4 b5 b8 : Nat → Int32), tn' < 5 → hs_geo (hs_up w e n) (hs_up p e q) b2 b3 b5 → hs_con (hs_up w e n) (hs_up p e q) (hs_up W e V) (hs_up dc e 0) (hs_up dm e 0) b1 b4 → post (nI tn', f1, f2, b1, b2, b3, b4, b5, a6, a7, b8)) :
    wpX_place post (nI tn, f1, f2, a1, a2, a3, a4, a5, a6, a7, a8) (nI e) (nI n) := by
  unfold wpX_place
  dsimp only
  rw [nI_1]
  refine hs_choose (by omega) htn (fun d hd => hs_room g hd) (fun tn' b8 q htn' hq hqd => ?_)
  dsimp only
  have hqn : ∀ c c', c ≤ n → c' ≤ n → c ≠ c' → q c ≠ q c' := fun c c' h1 h2 h3 z => h3 (hqd c c' (by omega) (by omega) (by rw [z]))
  have hc8 : ∀ c, c ≤ n → b8 (nI c).toNatClampNeg = nI (q c) := by
    intro c hc
    rw [nI_clamp (show c < 2 ^ 31 by omega), (hq c (by omega)).1]
  refine pk_loop (fun k i (s : Int32 × (Nat → Int32)) => wX_place_12 post (nI e) (nI n) (nI tn') f1 f2 k s.1 (nI i) s.2 a2 a3 a4 a5 a6 a7 b8) (fun i s => s.1 = hs_px V i ∧ (∀ c, c < i → s.2 (q c) = V c) ∧ (∀ j, (∀ c, c < i → q c ≠ j) → s.2 j = a1 j)) n 0 ((0 : Int32), a1) (by omega) ⟨rfl, fun c hc => absurd hc (by omega), fun j _ => rfl⟩ ?_ ?_
  rotate_left
  · intro k i s hi hs hw
    obtain ⟨x, s⟩ := s
    obtain ⟨s1, s2, s3⟩ := hs
    dsimp only at s1 s2 s3
    subst s1
    refine pk_le n i (fun z => absurd z (by omega)) (fun _ => ⟨pk_in i 5 (by omega), pk_in i 4 (by omega), pk_in (q i) 60 (hq i (by omega)).2.1 (hc8 i (by omega)), ?_⟩)
    rw [hc8 i (by omega), nI_clamp (show q i < 2 ^ 31 by have := (hq i (by omega)).2.1; omega), nI_clamp (show i < 2 ^ 31 by omega), hV i hi]
    refine nm_e ⟨pk_in i 4 (by omega), nm_e (nm_r (nI_1 i) (hw (hs_px V i ^^^ V i, upd s (q i) (V i)) ⟨rfl, fun c hc => ?_, fun j hj => ?_⟩))⟩
    · dsimp only
      by_cases hci : c = i
      · rw [hci, pk_us]
      · rw [pk_un (hqn c i (by omega) (by omega) hci)]
        exact s2 c (by omega)
    · dsimp only
      rw [pk_un (fun z => hj i (by omega) z.symm)]
      exact s3 j (fun c hc => hj c (by omega))
  intro k0 s hs
  obtain ⟨x, s⟩ := s
  obtain ⟨s1, s2, s3⟩ := hs
  dsimp only at s1 s2 s3
  subst s1
  refine pk_le n n (fun _ => ⟨pk_in n 5 (by omega), pk_in (q n) 60 (hq n (by omega)).2.1 (hc8 n (by omega)), ?_⟩) (fun z => absurd z (by omega))
  rw [hc8 n (by omega), nI_clamp (show q n < 2 ^ 31 by have := (hq n (by omega)).2.1; omega)]
  have b1q : ∀ c, c ≤ n → upd s (q n) (hs_px V n) (q c) = hs_rt V n c := by
    intro c hc
    by_cases hcn : c = n
    · rw [hcn, pk_us, hs_rt_n]
    · rw [pk_un (hqn c n hc (by omega) hcn), s2 c (by omega), hs_rt_lt (by omega)]
  have b1n : ∀ j, (∀ c, c ≤ n → q c ≠ j) → upd s (q n) (hs_px V n) j = a1 j := by
    intro j hj
    rw [pk_un (fun z => hj n (by omega) z.symm)]
    exact s3 j (fun c hc => hj c (by omega))
  refine nm_e ?_
  refine pk_loop (fun k i t => wX_place_68 post (nI e) (nI n) (nI tn') f1 f2 k (nI i) (upd s (q n) (hs_px V n)) t a3 a4 a5 a6 a7 b8) (fun i t => (∀ c, c < i → t (q c) = 1) ∧ (∀ j, (∀ c, c < i → q c ≠ j) → t j = a2 j)) (n + 1) 0 a2 (by omega) ⟨fun c hc => absurd hc (by omega), fun j _ => rfl⟩ ?_ ?_
  rotate_left
  · intro k i t hi ht hw
    refine pk_lt n i (fun z => absurd z (by omega)) (fun _ => ⟨pk_in i 5 (by omega), pk_in (q i) 60 (hq i (by omega)).2.1 (hc8 i (by omega)), ?_⟩)
    rw [hc8 i (by omega), nI_clamp (show q i < 2 ^ 31 by have := (hq i (by omega)).2.1; omega)]
    refine nm_e (nm_r (nI_1 i) (hw _ ⟨fun c hc => ?_, fun j hj => ?_⟩))
    · by_cases hci : c = i
      · rw [hci, pk_us]
      · rw [pk_un (hqn c i (by omega) (by omega) hci)]
        exact ht.1 c (by omega)
    · rw [pk_un (fun z => hj i (by omega) z.symm)]
      exact ht.2 j (fun c hc => hj c (by omega))
  intro k1 t ht
  refine pk_lt n (n + 1) (fun _ => ?_) (fun z => absurd z (by omega))
  refine hs_free (n := w e) (p := p e) he (g.1 e he).1 (g.1 e he).2 (fun hw c hc => ⟨(g.2.1 e c he hw hc).1, (g.2.1 e c he hw hc).2.1⟩) (fun b2 b3 b2o b2n b3e b3n => ?_)
  dsimp only
  refine And.intro (pk_in e 8 he) ?_
  rw [nI_clamp (show e < 2 ^ 31 by omega)]
  refine nm_e (hs_checkOf hn ⟨pk_in e 8 he, ?_⟩)
  rw [hs_ck_congr n hV]
  refine nm_e ?_
  refine pk_loop (fun k i t5 => wX_place_119 post (nI e) (nI n) (nI tn') f1 f2 k (nI i) (upd s (q n) (hs_px V n)) b2 (upd b3 e (nI n)) (upd a4 e (hs_ck V n)) t5 a6 a7 b8) (fun i t5 => (∀ c, c < i → t5 (e * 5 + c) = nI (q c)) ∧ (∀ x c, x ≠ e → c ≤ 4 → t5 (x * 5 + c) = a5 (x * 5 + c))) (n + 1) 0 a5 (by omega) ⟨fun c hc => absurd hc (by omega), fun _ _ _ _ => rfl⟩ ?_ ?_
  rotate_left
  · intro k i t5 hi ht5 hw
    refine pk_lt n i (fun z => absurd z (by omega)) (fun _ => ⟨pk_in i 5 (by omega), pk_in (e * 5 + i) 40 (by omega) (hs_i5 e i), ?_⟩)
    rw [hc8 i (by omega), hs_i5, nI_clamp (show e * 5 + i < 2 ^ 31 by omega)]
    refine nm_e (nm_r (nI_1 i) (hw _ ⟨fun c hc => ?_, fun x c hx hc => ?_⟩))
    · by_cases hci : c = i
      · rw [hci, pk_us]
      · rw [pk_un (show e * 5 + c ≠ e * 5 + i by omega)]
        exact ht5.1 c (by omega)
    · rw [pk_un (show x * 5 + c ≠ e * 5 + i by omega)]
      exact ht5.2 x c hx hc
  intro k2 t5 ht5
  refine pk_lt n (n + 1) (fun _ => ?_) (fun z => absurd z (by omega))
  have hpq : ∀ c c', 0 < w e → c ≤ w e → c' ≤ n → p e c ≠ q c' := by
    intro c c' hwe hc hc' z
    have h1 := (hq c' (by omega)).2.2
    rw [← z] at h1
    exact hs_10 (g.2.1 e c he hwe hc).2.2 h1
  refine H tn' q _ b2 _ _ t5 b8 htn' (hs_geo_place g he hn1 hn (fun c hc => (hq c (by omega)).2) (fun c c' h1 h2 => hqd c c' (by omega) (by omega)) (fun c hc => ?_) b2o (fun j hj1 hj2 => ?_) pk_us (fun x hx => ?_) (fun c hc => ht5.1 c (by omega)) ht5.2) (hs_con_place g k (fun c hc => (hq c (by omega)).2.2) b1q b1n)
  · rw [b2n (q c) (fun c' hw' hc' => hpq c' c hw' hc' hc)]
    exact ht.1 c (by omega)
  · rw [b2n j hj2]
    exact ht.2 j (fun c hc => hj1 c (by omega))
  · rw [pk_un hx]
    exact b3n x hx
end
section
/-! the methods over whole states -/
/-- a state that matches the picture: k words D are drafted, md columns are mended -/
abbrev hs_st (w : Nat → Nat) (p : Nat → Nat → Nat) (W : Nat → Nat → Int32) (dc : Nat → Nat) (dm : Nat → Int32) (k : Nat) (D : Nat → Int32) (md : Int32) (u : St1) : Prop := match u with
  | (f0, f1, f2, a1, a2, a3, a4, a5, a6, _, _) => hs_geo w p a2 a3 a5 ∧ hs_con w p W dc dm a1 a4 ∧ (∃ tn : Nat, tn < 5 ∧ f0 = nI tn) ∧ k ≤ 4 ∧ f1 = nI k ∧ f2 = md ∧ (∀ j, j < k → a6 j = D j)
/-- nothing is off -/
def hs_snd (w : Nat → Nat) (dm : Nat → Int32) : Prop := ∀ e, e < 8 → 0 < w e → dm e = 0
def hs_ap (F : Int32 → Int32 → Int32 → (Nat → Int32) → (Nat → Int32) → (Nat → Int32) → (Nat → Int32) → (Nat → Int32) → (Nat → Int32) → (Nat → Int32) → (Nat → Int32) → Prop) (u : St1) : Prop := match u with
  | (f0, f1, f2, a1, a2, a3, a4, a5, a6, a7, a8) => F f0 f1 f2 a1 a2 a3 a4 a5 a6 a7 a8
section
variable {w : Nat → Nat} {p : Nat → Nat → Nat} {W : Nat → Nat → Int32} {dc : Nat → Nat} {dm : Nat → Int32} {k : Nat} {D : Nat → Int32} {md : Int32} {u : St1}
theorem hs_st_size {post : Int32 → Prop} {e : Nat} (he : e < 8) (S : hs_st w p W dc dm k D md u) (H : post (nI (w e))) : wpX_size post u (nI e) := by
  obtain ⟨f0, f1, f2, a1, a2, a3, a4, a5, a6, a7, a8⟩ := u
  obtain ⟨g, c, S3⟩ := S
  refine hs_size he ?_
  rw [(g.1 e he).2]
  exact H
theorem hs_st_digest {post : Int32 → St1 → Prop} {e : Nat} (he : e < 8) (S : hs_st w p W dc dm k D md u) (H : ∀ u', hs_st w p W dc dm k D md u' → post (hs_sm (W e) (w e)) u') : wpX_digest post u (nI e) := by
  obtain ⟨f0, f1, f2, a1, a2, a3, a4, a5, a6, a7, a8⟩ := u
  have S' := S
  obtain ⟨g, c, S3⟩ := S'
  by_cases hw : 0 < w e
  · exact hs_digest_1 he (hs_get g c he hw) (fun b7 => H (f0, f1, f2, a1, a2, a3, a4, a5, a6, b7, a8) ⟨g, c, S3⟩)
  · have hz : w e = 0 := by omega
    refine hs_digest_0 he ?_ ?_
    · rw [(g.1 e he).2, hz]
      rfl
    · have h2 := H _ S
      rw [hz] at h2
      exact h2
theorem hs_st_read {post : Int32 → St1 → Prop} {e i : Nat} (he : e < 8) (hi : i < 8) (S : hs_st w p W dc dm k D md u)
    (H : ∀ (dm' : Nat → Int32) (md' : Int32) u', (dm e = 0 → dm' = dm ∧ md' = md) → hs_st w p W dc dm' k D md' u' → post (if i < w e then W e i else 0) u') : wpX_read post u (nI e) (nI i) := by
  obtain ⟨f0, f1, f2, a1, a2, a3, a4, a5, a6, a7, a8⟩ := u
  have S' := S
  obtain ⟨g, c, S1, S2, S3, S4, S5⟩ := S'
  by_cases hw : i < w e
  · have h0 : 0 < w e := by omega
    rw [if_pos hw] at H
    refine hs_read_1 he (hs_get g c he h0) hw (fun _ b7 => ?_) (fun hm b7 => ?_)
    · exact H dm md (f0, f1, f2, a1, a2, a3, a4, a5, a6, b7, a8) (fun _ => ⟨rfl, rfl⟩) ⟨g, c, S1, S2, S3, S4, S5⟩
    · refine H (hs_up dm e 0) (md + 1) (f0, f1, f2 + 1, _, a2, a3, a4, a5, a6, b7, a8) (fun z => absurd (Or.inl z) hm) ⟨g, hs_con_mend g c he h0, S1, S2, S3, by rw [S4], S5⟩
  · rw [if_neg hw] at H
    exact hs_read_0 he (g.1 e he).1 (g.1 e he).2 (by omega) hi (H dm md (f0, f1, f2, a1, a2, a3, a4, a5, a6, a7, a8) (fun _ => ⟨rfl, rfl⟩) ⟨g, c, S1, S2, S3, S4, S5⟩)
theorem hs_st_scrub {post : Int32 → St1 → Prop} (S : hs_st w p W dc dm k D md u)
    (H : ∀ (md' : Int32) u', (hs_snd w dm → md' = md) → hs_st w p W dc (fun _ => 0) k D md' u' → post (md' - md) u') : wpX_scrub post u := by
  have L : ∃ n, hs_ap (wX_scrub_7 post md n (nI 0)) u := by
    refine pk_loop (fun n i s => hs_ap (wX_scrub_7 post md n (nI i)) s) (fun i s => ∃ (dm' : Nat → Int32) (md' : Int32), (∀ x, x < i → 0 < w x → dm' x = 0) ∧ (hs_snd w dm → hs_snd w dm' ∧ md' = md) ∧ hs_st w p W dc dm' k D md' s) 8 0 u (by omega) ⟨dm, md, fun x hx => absurd hx (by omega), fun z => ⟨z, rfl⟩, S⟩ ?_ ?_
    · intro n s hs
      obtain ⟨dm', md', h1, h2, h3⟩ := hs
      obtain ⟨f0, f1, f2, a1, a2, a3, a4, a5, a6, a7, a8⟩ := s
      obtain ⟨g, c, S1, S2, S3, S4, S5⟩ := h3
      show wX_scrub_7 post md (n + 1) (nI 8) f0 f1 f2 a1 a2 a3 a4 a5 a6 a7 a8
      refine pk_le 8 8 (fun _ => ?_) (fun z => absurd z (by omega))
      rw [S4]
      exact H md' (f0, f1, md', a1, a2, a3, a4, a5, a6, a7, a8) (fun z => (h2 z).2) ⟨g, hs_con_dm c (fun e he hw => h1 e he hw), S1, S2, S3, rfl, S5⟩
    · intro n i s hi hs hw
      obtain ⟨dm', md', h1, h2, h3⟩ := hs
      obtain ⟨f0, f1, f2, a1, a2, a3, a4, a5, a6, a7, a8⟩ := s
      obtain ⟨g, c, S1, S2, S3, S4, S5⟩ := h3
      have hc3 : a3 (nI i).toNatClampNeg = nI (w i) := by rw [nI_clamp (show i < 2 ^ 31 by omega), (g.1 i hi).2]
      have hw4 := (g.1 i hi).1
      show wX_scrub_7 post md (n + 1) (nI i) f0 f1 f2 a1 a2 a3 a4 a5 a6 a7 a8
      refine pk_le 8 i (fun z => absurd z (by omega)) (fun _ => ⟨pk_in i 8 hi, ?_⟩)
      refine pk_le (w i) 0 (fun z => ?_) (fun z => ?_) hc3
      · refine nm_r (nI_1 i) (hw (f0, f1, f2, a1, a2, a3, a4, a5, a6, a7, a8) ⟨dm', md', fun x hx hwx => ?_, h2, ⟨g, c, S1, S2, S3, S4, S5⟩⟩)
        by_cases hxi : x = i
        · rw [hxi] at hwx
          omega
        · exact h1 x (by omega) hwx
      · refine hs_scrubOne hi (hs_get g c hi z) (fun hm b7 => ?_) (fun hm b7 => ?_)
        · refine nm_r (nI_1 i) (hw (f0, f1, f2, a1, a2, a3, a4, a5, a6, b7, a8) ⟨dm', md', fun x hx hwx => ?_, h2, ⟨g, c, S1, S2, S3, S4, S5⟩⟩)
          by_cases hxi : x = i
          · rw [hxi]
            exact hm
          · exact h1 x (by omega) hwx
        · refine nm_r (nI_1 i) (hw (f0, f1, f2 + 1, _, a2, a3, a4, a5, a6, b7, a8) ⟨hs_up dm' i 0, md' + 1, fun x hx hwx => ?_, fun hz => absurd ((h2 hz).1 i hi z) hm, ⟨g, hs_con_mend g c hi z, S1, S2, S3, by rw [S4], S5⟩⟩)
          by_cases hxi : x = i
          · rw [hxi, hs_up_s]
          · rw [hs_up_n dm' 0 hxi]
            exact h1 x (by omega) hwx
  obtain ⟨f0, f1, f2, a1, a2, a3, a4, a5, a6, a7, a8⟩ := u
  obtain ⟨g, c, S1, S2, S3, S4, S5⟩ := S
  subst S4
  exact L
theorem hs_st_damaged {post : Int32 → St1 → Prop} {e : Nat} (he : e < 8) (S : hs_st w p W dc dm k D md u)
    (H : ∀ u', hs_st w p W dc dm k D md u' → post (if w e = 0 then -3 else hs_fv (dc e) (dm e)) u') : wpX_damaged post u (nI e) := by
  obtain ⟨f0, f1, f2, a1, a2, a3, a4, a5, a6, a7, a8⟩ := u
  have S' := S
  obtain ⟨g, c, S3⟩ := S'
  have hc3 : a3 (nI e).toNatClampNeg = nI (w e) := by rw [nI_clamp (show e < 2 ^ 31 by omega), (g.1 e he).2]
  have hw4 := (g.1 e he).1
  unfold wpX_damaged
  dsimp only
  refine hs_bad he (br_t rfl ⟨pk_in e 8 he, ?_⟩)
  rw [hc3]
  refine pk_eq (w e) 0 (fun z => ?_) (fun z => ?_)
  · rw [if_pos z] at H
    exact H _ S
  · rw [if_neg z] at H
    exact hs_faulty he (hs_get g c he (by omega)) (fun b7 _ => H (f0, f1, f2, a1, a2, a3, a4, a5, a6, b7, a8) ⟨g, c, S3⟩)
theorem hs_st_sound {post : Int32 → St1 → Prop} (S : hs_st w p W dc (fun _ => 0) k D md u)
    (H : ∀ u', hs_st w p W dc (fun _ => 0) k D md u' → post 1 u') : wpL_sound post u := by
  have L : ∃ n, hs_ap (wL_sound_2 post n (nI 0)) u := by
    refine pk_loop (fun n i s => hs_ap (wL_sound_2 post n (nI i)) s) (fun _ s => hs_st w p W dc (fun _ => 0) k D md s) 8 0 u (by omega) S ?_ ?_
    · intro n s hs
      obtain ⟨f0, f1, f2, a1, a2, a3, a4, a5, a6, a7, a8⟩ := s
      show wL_sound_2 post (n + 1) (nI 8) f0 f1 f2 a1 a2 a3 a4 a5 a6 a7 a8
      exact pk_le 8 8 (fun _ => H _ hs) (fun z => absurd z (by omega))
    · intro n i s hi hs hw
      obtain ⟨f0, f1, f2, a1, a2, a3, a4, a5, a6, a7, a8⟩ := s
      show wL_sound_2 post (n + 1) (nI i) f0 f1 f2 a1 a2 a3 a4 a5 a6 a7 a8
      refine pk_le 8 i (fun z => absurd z (by omega)) (fun _ => ?_)
      refine hs_st_damaged hi hs (fun u' hu' => ?_)
      obtain ⟨g0, g1, g2, b1, b2, b3, b4, b5, b6, b7, b8⟩ := u'
      dsimp only
      have hw4 : w i ≤ 4 := (hu'.1.1 i hi).1
      refine hs_st_size hi hu' (pk_eq (w i) 0 (fun z => ?_) (fun z => ?_))
      · rw [if_pos z]
        unfold wL_sound_30
        exact br_t rfl (nm_r (nI_1 i) (hw (g0, g1, g2, b1, b2, b3, b4, b5, b6, b7, b8) hu'))
      · rw [if_neg z]
        unfold wL_sound_30
        exact br_t (if_pos rfl) (nm_r (nI_1 i) (hw (g0, g1, g2, b1, b2, b3, b4, b5, b6, b7, b8) hu'))
  obtain ⟨f0, f1, f2, a1, a2, a3, a4, a5, a6, a7, a8⟩ := u
  exact L
theorem hs_st_any {post : Int32 → St1 → Prop} (S : hs_st w p W dc dm k D md u)
    (H : ∀ (r : Int32) u', hs_st w p W dc dm k D md u' → (r = 0 ↔ hs_snd w dm) → post r u') : wpX_anyDamaged post u := by
  have L : ∃ n, hs_ap (wX_anyDamaged_4 post n 0 (nI 0)) u := by
    refine pk_loop (fun n i (s : Int32 × St1) => hs_ap (wX_anyDamaged_4 post n s.1 (nI i)) s.2) (fun i s => (s.1 = 0 ∨ s.1 = 1) ∧ (s.1 = 0 ↔ ∀ e, e < i → 0 < w e → dm e = 0) ∧ hs_st w p W dc dm k D md s.2) 8 0 (0, u) (by omega) ⟨Or.inl rfl, ⟨fun _ e he => absurd he (by omega), fun _ => rfl⟩, S⟩ ?_ ?_
    · intro n s hs
      obtain ⟨x, f0, f1, f2, a1, a2, a3, a4, a5, a6, a7, a8⟩ := s
      obtain ⟨h1, h2, h3⟩ := hs
      dsimp only at h1 h2 h3
      show wX_anyDamaged_4 post (n + 1) x (nI 8) f0 f1 f2 a1 a2 a3 a4 a5 a6 a7 a8
      refine pk_le 8 8 (fun _ => ⟨?_, H x _ h3 h2⟩) (fun z => absurd z (by omega))
      rcases h1 with rfl | rfl <;> rfl
    · intro n i s hi hs hw
      obtain ⟨x, f0, f1, f2, a1, a2, a3, a4, a5, a6, a7, a8⟩ := s
      obtain ⟨h1, h2, h3⟩ := hs
      dsimp only at h1 h2 h3
      have h3' := h3
      obtain ⟨g, c, S3⟩ := h3'
      have hc3 : a3 (nI i).toNatClampNeg = nI (w i) := by rw [nI_clamp (show i < 2 ^ 31 by omega), (g.1 i hi).2]
      have hw4 := (g.1 i hi).1
      show wX_anyDamaged_4 post (n + 1) x (nI i) f0 f1 f2 a1 a2 a3 a4 a5 a6 a7 a8
      refine pk_le 8 i (fun z => absurd z (by omega)) (fun _ => ⟨pk_in i 8 hi, ?_⟩)
      refine pk_le (w i) 0 (fun z => ?_) (fun z => ?_) hc3
      · refine nm_r (nI_1 i) (hw (x, f0, f1, f2, a1, a2, a3, a4, a5, a6, a7, a8) ⟨h1, ⟨fun hx e he hwe => ?_, fun hx => h2.mpr (fun e he => hx e (by omega))⟩, h3⟩)
        by_cases hei : e = i
        · rw [hei] at hwe
          omega
        · exact h2.mp hx e (by omega) hwe
      · refine hs_faulty hi (hs_get g c hi z) (fun b7 _ => ?_)
        dsimp only
        refine br_c (fun hx => br_c (fun hr => ?_) (fun hr => ?_)) (fun hx => ?_)
        · refine nm_r (nI_1 i) (hw ((0 : Int32), f0, f1, f2, a1, a2, a3, a4, a5, a6, b7, a8) ⟨Or.inl rfl, ⟨fun _ e he hwe => ?_, fun _ => rfl⟩, ⟨g, c, S3⟩⟩)
          by_cases hei : e = i
          · rw [hei]
            by_cases hm : dm i = 0
            · exact hm
            · rw [show hs_fv (dc i) (dm i) = nI (dc i) from if_neg hm] at hr
              have hd := (c i hi z).1
              exact absurd hr.symm (hs_neg5 _ (by omega))
          · exact h2.mp hx e (by omega) hwe
        · refine nm_r (nI_1 i) (hw ((1 : Int32), f0, f1, f2, a1, a2, a3, a4, a5, a6, b7, a8) ⟨Or.inr rfl, ⟨fun h => absurd (show (1 : Int32) = 0 from h) (by decide), fun h => ?_⟩, ⟨g, c, S3⟩⟩)
          exact absurd (if_pos (h i (by omega) z)) hr
        · refine nm_r (nI_1 i) (hw ((1 : Int32), f0, f1, f2, a1, a2, a3, a4, a5, a6, b7, a8) ⟨Or.inr rfl, ⟨fun h => absurd (show (1 : Int32) = 0 from h) (by decide), fun h => ?_⟩, ⟨g, c, S3⟩⟩)
          exact absurd (h2.mpr (fun e he => h e (by omega))) hx
  obtain ⟨f0, f1, f2, a1, a2, a3, a4, a5, a6, a7, a8⟩ := u
  exact L
theorem hs_st_damage {post : Int32 → St1 → Prop} {e c : Nat} (m : Int32) (he : e < 8) (hc8 : c < 8) (S : hs_st w p W dc dm k D md u)
    (H : ∀ (r : Int32) (dc' : Nat → Nat) (dm' : Nat → Int32) u', hs_st w p W dc' dm' k D md u' → post r u') : wpX_damage post u (nI e) (nI c) m := by
  obtain ⟨f0, f1, f2, a1, a2, a3, a4, a5, a6, a7, a8⟩ := u
  have S' := S
  obtain ⟨g, cn, S3⟩ := S'
  have hc3 : a3 (nI e).toNatClampNeg = nI (w e) := by rw [nI_clamp (show e < 2 ^ 31 by omega), (g.1 e he).2]
  have hw4 := (g.1 e he).1
  unfold wpX_damage
  dsimp only
  refine hs_bad he (br_t rfl ⟨pk_in e 8 he, ?_⟩)
  rw [hc3]
  refine pk_eq (w e) 0 (fun z => H _ dc dm _ S) (fun z => br_f (nI_pos (by omega)) ⟨pk_in e 8 he, ?_⟩)
  have hw : 0 < w e := by omega
  refine pk_le c (w e) (fun hcw => ?_) (fun _ => H _ dc dm _ S)
  have h61 : (dm e = 0 ∨ dc e = c) → ∀ b7, wX_damage_61 post (nI e) (nI c) m f0 f1 f2 a1 a2 a3 a4 a5 a6 b7 a8 := by
    intro hd b7
    obtain ⟨p1, p2, p3⟩ := g.2.1 e c he hw hcw
    have h5' : a5 (nI e * 5 + nI c).toNatClampNeg = nI (p e c) := by rw [hs_i5, nI_clamp (show e * 5 + c < 2 ^ 31 by omega), p1]
    have hk := hs_con_hit m g cn he hw hcw hd
    unfold wX_damage_61
    refine And.intro (pk_in (e * 5 + c) 40 (by omega) (hs_i5 e c)) (nm_r h5' ⟨pk_in (p e c) 60 p2, pk_in (p e c) 60 p2, ?_⟩)
    rw [nI_clamp (show p e c < 2 ^ 31 by omega)]
    refine nm_e (hs_faulty he (hs_get g hk he hw) (fun c7 _ => ?_))
    dsimp only
    exact br_c (fun _ => H _ _ _ (f0, f1, f2, _, a2, a3, a4, a5, a6, c7, a8) ⟨g, hk, S3⟩) (fun _ => H _ _ _ (f0, f1, f2, _, a2, a3, a4, a5, a6, c7, a8) ⟨g, hk, S3⟩)
  refine hs_faulty he (hs_get g cn he hw) (fun b7 _ => ?_)
  dsimp only
  have hd := (cn e he hw).1
  by_cases hm : dm e = 0
  · exact br_t (if_pos hm) (h61 (Or.inl hm) b7)
  · rw [show hs_fv (dc e) (dm e) = nI (dc e) from if_neg hm]
    exact br_f (fun z => hs_neg5 _ (by omega) z.symm) (pk_eq (dc e) c (fun z => h61 (Or.inr z) b7) (fun _ => H _ dc dm (f0, f1, f2, a1, a2, a3, a4, a5, a6, b7, a8) ⟨g, cn, S3⟩))
theorem hs_st_draft {post : Int32 → St1 → Prop} (x : Int32) (S : hs_st w p W dc dm k D md u)
    (H : ∀ (r : Int32) u', hs_st w p W dc dm (if k = 4 then k else k + 1) (if k = 4 then D else upd D k x) md u' → post r u') : wpX_draft post u x := by
  obtain ⟨f0, f1, f2, a1, a2, a3, a4, a5, a6, a7, a8⟩ := u
  have S' := S
  obtain ⟨g, c, S1, S2, S3, S4, S5⟩ := S'
  unfold wpX_draft
  dsimp only
  refine pk_eq k 4 (fun z => ?_) (fun z => ⟨pk_in k 4 (by omega) S3, ?_⟩) S3
  · rw [if_pos z, if_pos z] at H
    exact H _ _ S
  · rw [if_neg z, if_neg z] at H
    rw [S3, nI_clamp (show k < 2 ^ 31 by omega)]
    refine nm_e (nm_r (nI_1 k) (H _ (f0, nI (k + 1), f2, a1, a2, a3, a4, a5, _, a7, a8) ⟨g, c, S1, by omega, rfl, S4, fun j hj => ?_⟩))
    by_cases hjk : j = k
    · rw [hjk, pk_us, pk_us]
    · rw [pk_un hjk, pk_un hjk]
      exact S5 j (by omega)
theorem hs_st_put {post : Int32 → St1 → Prop} {e : Nat} (he : e < 8) (S : hs_st w p W dc dm k D md u)
    (H0 : k = 0 → ∀ (r : Int32), post r u)
    (H1 : 0 < k → ∀ (r : Int32) (p' : Nat → Nat → Nat) u', hs_st (hs_up w e k) p' (hs_up W e D) (hs_up dc e 0) (hs_up dm e 0) 0 D md u' → post r u') : wpX_put post u (nI e) := by
  obtain ⟨f0, f1, f2, a1, a2, a3, a4, a5, a6, a7, a8⟩ := u
  have S' := S
  obtain ⟨g, c, ⟨tn, htn, S1⟩, S2, S3, S4, S5⟩ := S'
  unfold wpX_put
  dsimp only
  subst S3
  subst S1
  refine hs_bad he (br_t rfl (pk_eq k 0 (fun z => H0 z _) (fun z => ?_)))
  refine pk_loop (fun n i s => wX_put_22 post (nI e) (nI tn) (nI k) f2 n (nI i) a1 a2 a3 a4 a5 a6 s a8) (fun i s => ∀ j, j < i → s j = D j) k 0 a7 (by omega) (fun j hj => absurd hj (by omega)) ?_ ?_
  · intro n s hs
    refine pk_le k k (fun _ => ?_) (fun z => absurd z (by omega))
    refine hs_place g c he (by omega) S2 htn hs (fun tn' q b1 b2 b3 b4 b5 b8 htn' g' c' => ?_)
    exact H1 (by omega) _ _ (nI tn', 0, f2, b1, b2, b3, b4, b5, a6, s, b8) ⟨g', c', ⟨tn', htn', rfl⟩, by omega, rfl, S4, fun j hj => absurd hj (by omega)⟩
  · intro n i s hi hs hw
    refine pk_le k i (fun z => absurd z (by omega)) (fun _ => ⟨pk_in i 4 (by omega), pk_in i 4 (by omega), ?_⟩)
    rw [nI_clamp (show i < 2 ^ 31 by omega), S5 i hi]
    exact nm_e (nm_r (nI_1 i) (hw _ (hs_fill hs)))
theorem hs_st_free {post : St1 → Prop} {e : Nat} (he : e < 8) (S : hs_st w p W dc dm k D md u)
    (H : ∀ u', hs_st (hs_up w e 0) p W dc dm k D md u' → post u') : wpX_free post u (nI e) := by
  obtain ⟨f0, f1, f2, a1, a2, a3, a4, a5, a6, a7, a8⟩ := u
  obtain ⟨g, c, S3⟩ := S
  refine hs_free (n := w e) (p := p e) he (g.1 e he).1 (g.1 e he).2 (fun hw c hc => ⟨(g.2.1 e c he hw hc).1, (g.2.1 e c he hw hc).2.1⟩) (fun b2 b3 b2o b2n b3e b3n => ?_)
  exact H (f0, f1, f2, a1, b2, b3, a4, a5, a6, a7, a8) ⟨hs_geo_free g he b2o b2n b3e b3n, hs_con_free e c, S3⟩
theorem hs_st_delete {post : Int32 → St1 → Prop} {e : Nat} (he : e < 8) (S : hs_st w p W dc dm k D md u)
    (H0 : w e = 0 → post (-3) u) (H1 : 0 < w e → ∀ u', hs_st (hs_up w e 0) p W dc dm k D md u' → post (nI (w e)) u') : wpX_delete post u (nI e) := by
  obtain ⟨f0, f1, f2, a1, a2, a3, a4, a5, a6, a7, a8⟩ := u
  have S' := S
  obtain ⟨g, c, S3⟩ := S'
  have hc3 : a3 (nI e).toNatClampNeg = nI (w e) := by rw [nI_clamp (show e < 2 ^ 31 by omega), (g.1 e he).2]
  have hw4 := (g.1 e he).1
  unfold wpX_delete
  dsimp only
  refine hs_bad he (br_t rfl ⟨pk_in e 8 he, ?_⟩)
  rw [hc3]
  refine pk_eq (w e) 0 (fun z => H0 z) (fun z => ⟨pk_in e 8 he, nm_e ?_⟩)
  refine hs_st_free he S (fun u' hu' => ?_)
  obtain ⟨g0, g1, g2, b1, b2, b3, b4, b5, b6, b7, b8⟩ := u'
  exact H1 (by omega) _ hu'
/-- copy: either the source is off and nothing happens, or the target has the source's words -/
theorem hs_st_copy {post : Int32 → St1 → Prop} {e f : Nat} (he : e < 8) (hf : f < 8) (S : hs_st w p W dc dm k D md u)
    (H0 : 0 < w e → ¬ dm e = 0 → ∀ u', hs_st w p W dc dm k D md u' → post (-4) u')
    (H1 : ∀ (r : Int32) (p' : Nat → Nat → Nat) (dc' : Nat → Nat) (dm' : Nat → Int32) u', ¬ r < 0 → (dm = (fun _ => 0) → dm' = (fun _ => 0)) → hs_st (hs_up w f (w e)) p' (hs_up W f (W e)) dc' dm' k D md u' → post r u') : wpX_copy post u (nI e) (nI f) := by
  obtain ⟨f0, f1, f2, a1, a2, a3, a4, a5, a6, a7, a8⟩ := u
  have S' := S
  obtain ⟨g, c, ⟨tn, htn, S1⟩, S2, S3, S4, S5⟩ := S'
  have hc3 : a3 (nI e).toNatClampNeg = nI (w e) := by rw [nI_clamp (show e < 2 ^ 31 by omega), (g.1 e he).2]
  have hw4 := (g.1 e he).1
  unfold wpX_copy
  dsimp only
  refine hs_bad he (br_t rfl (hs_bad hf (br_t rfl ⟨pk_in e 8 he, ?_⟩)))
  rw [hc3]
  refine pk_eq (w e) 0 (fun z => ?_) (fun z => ?_)
  · refine hs_st_free hf S (fun u' hu' => ?_)
    obtain ⟨g0, g1, g2, b1, b2, b3, b4, b5, b6, b7, b8⟩ := u'
    obtain ⟨g', c', S3'⟩ := hu'
    dsimp only
    refine H1 0 p dc dm _ (by decide) (fun h => h) ⟨by rw [z]; exact g', ?_, S3'⟩
    intro x hx hwx
    have hxf : x ≠ f := by
      intro y
      rw [y, hs_up_s, z] at hwx
      omega
    rw [hs_up_n w _ hxf] at hwx
    rw [hs_up_n w _ hxf, hs_up_n W _ hxf]
    have h2 := c' x hx (by rw [hs_up_n w _ hxf]; exact hwx)
    rw [hs_up_n w _ hxf] at h2
    exact h2
  · have hw : 0 < w e := by omega
    subst S1
    refine hs_faulty he (hs_get g c he hw) (fun b7 hb => ?_)
    dsimp only
    have hd := (c e he hw).1
    by_cases hm : dm e = 0
    · refine br_t (if_pos hm) ⟨pk_in e 8 he, nm_r hc3 ?_⟩
      refine hs_place g c hf (by omega) hw4 htn hb (fun tn' q b1 b2 b3 b4 b5 b8 htn' g' c' => ?_)
      dsimp only
      refine H1 _ _ _ (hs_up dm f 0) (nI tn', f1, f2, b1, b2, b3, b4, b5, a6, b7, b8) (nI_pos (by omega)) (fun h => ?_) ⟨g', c', ⟨tn', htn', rfl⟩, S2, S3, S4, S5⟩
      rw [h]
      exact hs_up_id rfl
    · rw [show hs_fv (dc e) (dm e) = nI (dc e) from if_neg hm]
      exact br_f (fun z => hs_neg5 _ (by omega) z.symm) (H0 hw hm (nI tn, f1, f2, a1, a2, a3, a4, a5, a6, b7, a8) ⟨g, c, ⟨tn, htn, rfl⟩, S2, S3, S4, S5⟩)
end
end
section
/-! a disk is lost, and its columns are rebuilt -/
theorem hs_m12 (d : Nat) : nI d * 12 = nI (d * 12) := by
  show nI d * nI 12 = _
  rw [pk_mul]
theorem hs_m12b (d : Nat) : nI d * 12 + 12 = nI (d * 12 + 12) := by
  show nI d * nI 12 + nI 12 = _
  rw [pk_mul, nI_add]
theorem hs_resupply {post : St1 → Prop} {f0 f1 f2 : Int32} {a1 a2 a3 a4 a5 a6 a7 a8 : Nat → Int32} {w : Nat → Nat} {p : Nat → Nat → Nat} {V : Nat → Int32} {e d : Nat} (g : hs_geo w p a2 a3 a5) (he : e < 8) (hw : 0 < w e) (hd : d < 5)
    (h1 : ∀ c, c ≤ w e → p e c / 12 ≠ d → a1 (p e c) = hs_rt V (w e) c)
    (H : ∀ b1 : Nat → Int32, (∀ c, c ≤ w e → b1 (p e c) = hs_rt V (w e) c) → (∀ j, (∀ c, c ≤ w e → p e c ≠ j) → b1 j = a1 j) → post (f0, f1, f2, b1, a2, a3, a4, a5, a6, a7, a8)) :
    wpX_resupply post (f0, f1, f2, a1, a2, a3, a4, a5, a6, a7, a8) (nI e) (nI d) := by
  have hw4 := (g.1 e he).1
  have hc : a3 (nI e).toNatClampNeg = nI (w e) := by rw [nI_clamp (show e < 2 ^ 31 by omega), (g.1 e he).2]
  show ∃ fu, wX_resupply_2 post (nI e) (nI d) f0 f1 f2 fu (nI 0) a1 a2 a3 a4 a5 a6 a7 a8
  refine pk_loop (fun k i s => wX_resupply_2 post (nI e) (nI d) f0 f1 f2 k (nI i) s a2 a3 a4 a5 a6 a7 a8) (fun i s => (∀ c, c ≤ w e → (c < i ∨ p e c / 12 ≠ d) → s (p e c) = hs_rt V (w e) c) ∧ (∀ j, (∀ c, c ≤ w e → p e c ≠ j) → s j = a1 j)) (w e + 1) 0 a1 (by omega) ⟨fun c hc h => h1 c hc (h.resolve_left (by omega)), fun j _ => rfl⟩ ?_ ?_
  · intro k s hs
    exact And.intro (pk_in e 8 he) (pk_lt (w e) (w e + 1) (fun _ => H s (fun c hc => hs.1 c hc (Or.inl (by omega))) hs.2) (fun z => absurd z (by omega)) hc)
  · intro k i s hi hs hw2
    obtain ⟨p1, p2, p3⟩ := g.2.1 e i he hw (by omega)
    have h5' : a5 (nI e * 5 + nI i).toNatClampNeg = nI (p e i) := by rw [hs_i5, nI_clamp (show e * 5 + i < 2 ^ 31 by omega), p1]
    have skip : p e i / 12 ≠ d → wX_resupply_2 post (nI e) (nI d) f0 f1 f2 k (nI (i + 1)) s a2 a3 a4 a5 a6 a7 a8 := by
      intro hne
      refine hw2 s ⟨fun c hc h => ?_, hs.2⟩
      by_cases hci : c = i
      · exact hs.1 c hc (Or.inr (by rw [hci]; exact hne))
      · exact hs.1 c hc (h.elim (fun y => Or.inl (by omega)) Or.inr)
    refine And.intro (pk_in e 8 he) (pk_lt (w e) i (fun z => absurd z (by omega)) (fun _ => ⟨pk_in (e * 5 + i) 40 (by omega) (hs_i5 e i), nm_r h5' ?_⟩) hc)
    refine pk_lt (p e i) (d * 12) (fun z => nm_r (nI_1 i) (skip (by omega))) (fun z => ?_) rfl (hs_m12 d)
    refine pk_le (d * 12 + 12) (p e i) (fun z2 => nm_r (nI_1 i) (skip (by omega))) (fun z2 => ?_) (hs_m12b d)
    have hon : p e i / 12 = d := by omega
    refine hs_rebuilt (v := hs_rt V (w e)) he hw4 (by omega) (g.1 e he).2 (fun c hc => ⟨(g.2.1 e c he hw hc).1, (g.2.1 e c he hw hc).2.1⟩) (fun c hc hci => hs.1 c hc (Or.inr (fun y => hci (g.2.2.1 e c i he hw hc (by omega) (by rw [y, hon]))))) ⟨pk_in (p e i) 60 p2, ?_⟩
    rw [hs_rb_0 V (show i ≤ w e by omega), nI_clamp (show p e i < 2 ^ 31 by omega)]
    refine nm_e (nm_r (nI_1 i) (hw2 _ ⟨fun c hc h => ?_, fun j hj => ?_⟩))
    · by_cases hci : c = i
      · rw [hci, pk_us]
      · rw [pk_un (hs_apart g he hw hc (by omega) hci)]
        exact hs.1 c hc (h.elim (fun y => Or.inl (by omega)) Or.inr)
    · rw [pk_un (fun y => hj i (by omega) y.symm)]
      exact hs.2 j hj
theorem hs_st_lose {w : Nat → Nat} {p : Nat → Nat → Nat} {W : Nat → Nat → Int32} {dc : Nat → Nat} {dm : Nat → Int32} {k : Nat} {D : Nat → Int32} {md : Int32} {u : St1} {post : Int32 → St1 → Prop} {d : Nat} (hd8 : d < 8) (S : hs_st w p W dc dm k D md u)
    (H1 : ¬ (d < 5 ∧ hs_snd w dm) → ∀ (r : Int32) u', hs_st w p W dc dm k D md u' → post r u')
    (H2 : d < 5 → hs_snd w dm → ∀ u', hs_st w p W dc (fun _ => 0) k D md u' → post 0 u') : wpX_lose post u (nI d) := by
  obtain ⟨e0, e1, e2, c1, c2, c3, c4, c5, c6, c7, c8⟩ := u
  unfold wpX_lose
  dsimp only
  refine br_f (nI_pos (by omega)) (pk_lt d 5 (fun hd => ?_) (fun z => H1 (fun y => absurd y.1 (by omega)) _ _ S))
  refine hs_st_any S (fun r u' hu' hr => ?_)
  obtain ⟨f0, f1, f2, a1, a2, a3, a4, a5, a6, a7, a8⟩ := u'
  dsimp only
  refine br_c (fun z => ?_) (fun z => H1 (fun y => z (hr.mpr y.2)) _ _ hu')
  have hz := hr.mp z
  obtain ⟨g, c, S3⟩ := hu'
  refine pk_loop (fun n i s => wX_lose_25 post (nI d) f0 f1 f2 n (nI i) s a2 a3 a4 a5 a6 a7 a8) (fun _ s => ∀ j, j / 12 ≠ d → s j = a1 j) 12 0 a1 (by omega) (fun j _ => rfl) ?_ ?_
  rotate_left
  · intro n i s hi hs hw
    refine pk_le 12 i (fun z => absurd z (by omega)) (fun _ => ⟨pk_in (d * 12 + i) 60 (by omega) (hs_i12 d i), ?_⟩)
    rw [hs_i12, nI_clamp (show d * 12 + i < 2 ^ 31 by omega)]
    refine nm_e (nm_r (nI_1 i) (hw _ (fun j hj => ?_)))
    rw [pk_un (show j ≠ d * 12 + i by omega)]
    exact hs j hj
  intro n0 s hs
  refine pk_le 12 12 (fun _ => ?_) (fun z => absurd z (by omega))
  refine pk_loop (fun n i t => wX_lose_53 post (nI d) n (nI i) f0 f1 f2 t a2 a3 a4 a5 a6 a7 a8) (fun i t => ∀ x, x < 8 → 0 < w x → ∀ y, y ≤ w x → (x < i ∨ p x y / 12 ≠ d) → t (p x y) = hs_rt (W x) (w x) y) 8 0 s (by omega) ?_ ?_ ?_
  · intro x hx hwx y hy h
    rw [hs (p x y) (h.resolve_left (by omega)), (c x hx hwx).2.2 y hy, hz x hx hwx, hs_cv_0]
  · intro n t ht
    refine pk_le 8 8 (fun _ => ?_) (fun z => absurd z (by omega))
    refine H2 hd hz (f0, f1, f2, t, a2, a3, a4, a5, a6, a7, a8) ⟨g, fun x hx hwx => ⟨(c x hx hwx).1, (c x hx hwx).2.1, fun y hy => ?_⟩, S3⟩
    rw [ht x hx hwx y hy (Or.inl hx), hs_cv_0]
  · intro n i t hi ht hw
    have hw4 := (g.1 i hi).1
    have hc3 : a3 (nI i).toNatClampNeg = nI (w i) := by rw [nI_clamp (show i < 2 ^ 31 by omega), (g.1 i hi).2]
    refine pk_le 8 i (fun z => absurd z (by omega)) (fun _ => ⟨pk_in i 8 hi, ?_⟩)
    refine pk_le (w i) 0 (fun h0 => ?_) (fun h0 => ?_) hc3
    · refine nm_r (nI_1 i) (hw t (fun x hx hwx y hy h => ht x hx hwx y hy (h.elim (fun q => Or.inl ?_) Or.inr)))
      have hxi : x ≠ i := by
        intro q2
        rw [q2] at hwx
        omega
      omega
    · refine hs_resupply (V := W i) g hi h0 hd (fun y hy hne => ht i hi h0 y hy (Or.inr hne)) (fun b1 hb hb' => ?_)
      refine nm_r (nI_1 i) (hw b1 (fun x hx hwx y hy h => ?_))
      by_cases hxi : x = i
      · subst hxi
        exact hb y hy
      · rw [hb' (p x y) (fun y' hy' q => hs_apart2 g hi hx h0 hwx hy' hy hxi q.symm)]
        exact ht x hx hwx y hy (h.elim (fun q => Or.inl (by omega)) Or.inr)
end
section
/-! the law: two objects that hold the same words, the second one always sound -/
abbrev hs_j (u t : St1) : St2 := match u, t with
  | (f0, f1, f2, a1, a2, a3, a4, a5, a6, a7, a8), (g0, g1, g2, b1, b2, b3, b4, b5, b6, b7, b8) => (f0, f1, f2, a1, a2, a3, a4, a5, a6, a7, a8, g0, g1, g2, b1, b2, b3, b4, b5, b6, b7, b8)
def hs_ap2 (F : Int32 → Int32 → Int32 → (Nat → Int32) → (Nat → Int32) → (Nat → Int32) → (Nat → Int32) → (Nat → Int32) → (Nat → Int32) → (Nat → Int32) → (Nat → Int32) → Int32 → Int32 → Int32 → (Nat → Int32) → (Nat → Int32) → (Nat → Int32) → (Nat → Int32) → (Nat → Int32) → (Nat → Int32) → (Nat → Int32) → (Nat → Int32) → Prop) (s : St1 × St1) : Prop := match s with
  | ((f0, f1, f2, a1, a2, a3, a4, a5, a6, a7, a8), (g0, g1, g2, b1, b2, b3, b4, b5, b6, b7, b8)) => F f0 f1 f2 a1 a2 a3 a4 a5 a6 a7 a8 g0 g1 g2 b1 b2 b3 b4 b5 b6 b7 b8
def hs_R (u t : St1) : Prop := ∃ (w : Nat → Nat) (W : Nat → Nat → Int32) (k : Nat) (D : Nat → Int32), (∃ p dc dm md, hs_st w p W dc dm k D md u) ∧ (∃ p dc md, hs_st w p W dc (fun _ => 0) k D md t)
theorem hs_turn {post : St2 → Prop} {u t : St1} (op x : Int32) (R : hs_R u t) (H : ∀ u' t', hs_R u' t' → post (hs_j u' t')) : wpL_turn post (hs_j u t) op x := by
  obtain ⟨w, W, k, D, ⟨p, dc, dm, md, S⟩, ⟨p', dc', md', T⟩⟩ := R
  obtain ⟨f0, f1, f2, a1, a2, a3, a4, a5, a6, a7, a8⟩ := u
  obtain ⟨g0, g1, g2, b1, b2, b3, b4, b5, b6, b7, b8⟩ := t
  obtain ⟨o, ho, eo⟩ := pk_andE op (m := 15) 4 (by decide)
  obtain ⟨e, he, ee⟩ := pk_andE x (m := 7) 3 (by decide)
  obtain ⟨f, hf, ef⟩ := pk_andE (x >>> ((3 : Int32) &&& 31)) (m := 7) 3 (by decide)
  have he : e < 8 := he
  have hf : f < 8 := hf
  have ho : o < 16 := ho
  unfold wpL_turn
  dsimp only
  refine nm_r eo (nm_r ee (nm_r ef ?_))
  refine pk_le 5 o (fun h5 => pk_le 8 o (fun h8 => pk_eq o 8 (fun _ => ?_) (fun hn8 => pk_eq o 9 (fun _ => ?_) (fun hn9 => pk_le 14 o (fun h14 => pk_eq o 14 (fun _ => ?_) (fun _ => br_c (fun _ => ?_) (fun _ => ?_))) (fun _ => ?_)))) (fun _ => ?_)) (fun _ => ?_)
  · refine hs_st_copy he hf S (fun _ _ u' hu' => ?_) (fun r q1 dc1 dm1 u' hr _ hu' => ?_)
    · obtain ⟨h0, h1, h2, c1, c2, c3, c4, c5, c6, c7, c8⟩ := u'
      exact br_t (by decide) (H (h0, h1, h2, c1, c2, c3, c4, c5, c6, c7, c8) (g0, g1, g2, b1, b2, b3, b4, b5, b6, b7, b8) ⟨w, W, k, D, ⟨p, dc, dm, md, hu'⟩, ⟨p', dc', md', T⟩⟩)
    · obtain ⟨h0, h1, h2, c1, c2, c3, c4, c5, c6, c7, c8⟩ := u'
      refine br_f hr ?_
      refine hs_st_copy he hf T (fun _ h _ _ => absurd rfl h) (fun r2 q2 dc2 dm2 t' _ hdm ht' => ?_)
      obtain ⟨k0, k1, k2, d1, d2, d3, d4, d5, d6, d7, d8⟩ := t'
      rw [hdm rfl] at ht'
      exact H (h0, h1, h2, c1, c2, c3, c4, c5, c6, c7, c8) (k0, k1, k2, d1, d2, d3, d4, d5, d6, d7, d8) ⟨_, _, k, D, ⟨q1, dc1, dm1, md, hu'⟩, ⟨q2, dc2, md', ht'⟩⟩
  · refine hs_st_delete he S (fun _ => br_t (by decide) (H (f0, f1, f2, a1, a2, a3, a4, a5, a6, a7, a8) (g0, g1, g2, b1, b2, b3, b4, b5, b6, b7, b8) ⟨w, W, k, D, ⟨p, dc, dm, md, S⟩, ⟨p', dc', md', T⟩⟩)) (fun hw u' hu' => ?_)
    obtain ⟨h0, h1, h2, c1, c2, c3, c4, c5, c6, c7, c8⟩ := u'
    have hw4 : w e ≤ 4 := (S.1.1 e he).1
    refine br_f (nI_pos (by omega)) ?_
    refine hs_st_delete he T (fun h => absurd h (by omega)) (fun _ t' ht' => ?_)
    obtain ⟨k0, k1, k2, d1, d2, d3, d4, d5, d6, d7, d8⟩ := t'
    exact H (h0, h1, h2, c1, c2, c3, c4, c5, c6, c7, c8) (k0, k1, k2, d1, d2, d3, d4, d5, d6, d7, d8) ⟨_, _, k, D, ⟨p, dc, dm, md, hu'⟩, ⟨p', dc', md', ht'⟩⟩
  · refine hs_st_lose hf S (fun _ r u' hu' => ?_) (fun _ _ u' hu' => ?_)
    · obtain ⟨h0, h1, h2, c1, c2, c3, c4, c5, c6, c7, c8⟩ := u'
      exact H (h0, h1, h2, c1, c2, c3, c4, c5, c6, c7, c8) (g0, g1, g2, b1, b2, b3, b4, b5, b6, b7, b8) ⟨w, W, k, D, ⟨p, dc, dm, md, hu'⟩, ⟨p', dc', md', T⟩⟩
    · obtain ⟨h0, h1, h2, c1, c2, c3, c4, c5, c6, c7, c8⟩ := u'
      exact H (h0, h1, h2, c1, c2, c3, c4, c5, c6, c7, c8) (g0, g1, g2, b1, b2, b3, b4, b5, b6, b7, b8) ⟨w, W, k, D, ⟨p, dc, _, md, hu'⟩, ⟨p', dc', md', T⟩⟩
  · refine hs_st_read he hf S (fun dm1 md1 u' _ hu' => ?_)
    obtain ⟨h0, h1, h2, c1, c2, c3, c4, c5, c6, c7, c8⟩ := u'
    exact H (h0, h1, h2, c1, c2, c3, c4, c5, c6, c7, c8) (g0, g1, g2, b1, b2, b3, b4, b5, b6, b7, b8) ⟨w, W, k, D, ⟨p, dc, dm1, md1, hu'⟩, ⟨p', dc', md', T⟩⟩
  · refine hs_st_scrub S (fun md1 u' _ hu' => ?_)
    obtain ⟨h0, h1, h2, c1, c2, c3, c4, c5, c6, c7, c8⟩ := u'
    exact H (h0, h1, h2, c1, c2, c3, c4, c5, c6, c7, c8) (g0, g1, g2, b1, b2, b3, b4, b5, b6, b7, b8) ⟨w, W, k, D, ⟨p, dc, _, md1, hu'⟩, ⟨p', dc', md', T⟩⟩
  · have h146 : ∀ m : Int32, wL_turn_146 post m (nI f) (nI e) f0 f1 f2 a1 a2 a3 a4 a5 a6 a7 a8 g0 g1 g2 b1 b2 b3 b4 b5 b6 b7 b8 := by
      intro m
      unfold wL_turn_146
      refine hs_st_damage m he hf S (fun r dc1 dm1 u' hu' => ?_)
      obtain ⟨h0, h1, h2, c1, c2, c3, c4, c5, c6, c7, c8⟩ := u'
      exact H (h0, h1, h2, c1, c2, c3, c4, c5, c6, c7, c8) (g0, g1, g2, b1, b2, b3, b4, b5, b6, b7, b8) ⟨w, W, k, D, ⟨p, dc1, dm1, md, hu'⟩, ⟨p', dc', md', T⟩⟩
    exact br_c (fun _ => h146 _) (fun _ => h146 _)
  · refine hs_st_put he S (fun hk r => ?_) (fun hk r q1 u' hu' => ?_)
    · dsimp only
      refine hs_st_put he T (fun _ r2 => ?_) (fun hk2 => absurd hk2 (by omega))
      exact H (f0, f1, f2, a1, a2, a3, a4, a5, a6, a7, a8) (g0, g1, g2, b1, b2, b3, b4, b5, b6, b7, b8) ⟨w, W, k, D, ⟨p, dc, dm, md, S⟩, ⟨p', dc', md', T⟩⟩
    · obtain ⟨h0, h1, h2, c1, c2, c3, c4, c5, c6, c7, c8⟩ := u'
      dsimp only
      refine hs_st_put he T (fun hk2 => absurd hk2 (by omega)) (fun _ r2 q2 t' ht' => ?_)
      obtain ⟨k0, k1, k2, d1, d2, d3, d4, d5, d6, d7, d8⟩ := t'
      have hz : hs_up (fun _ => (0 : Int32)) e 0 = (fun _ => 0) := hs_up_id rfl
      rw [hz] at ht'
      exact H (h0, h1, h2, c1, c2, c3, c4, c5, c6, c7, c8) (k0, k1, k2, d1, d2, d3, d4, d5, d6, d7, d8) ⟨_, _, 0, D, ⟨q1, _, _, md, hu'⟩, ⟨q2, _, md', ht'⟩⟩
  · refine hs_st_draft x S (fun r u' hu' => ?_)
    obtain ⟨h0, h1, h2, c1, c2, c3, c4, c5, c6, c7, c8⟩ := u'
    dsimp only
    refine hs_st_draft x T (fun r2 t' ht' => ?_)
    obtain ⟨k0, k1, k2, d1, d2, d3, d4, d5, d6, d7, d8⟩ := t'
    exact H (h0, h1, h2, c1, c2, c3, c4, c5, c6, c7, c8) (k0, k1, k2, d1, d2, d3, d4, d5, d6, d7, d8) ⟨w, W, _, _, ⟨p, dc, dm, md, hu'⟩, ⟨p', dc', md', ht'⟩⟩
section
variable {w : Nat → Nat} {p p' : Nat → Nat → Nat} {W : Nat → Nat → Int32} {dc dc' : Nat → Nat} {dm : Nat → Int32} {k : Nat} {D : Nat → Int32} {md md' : Int32} {u t : St1}
theorem hs_equal {post : Int32 → St2 → Prop} (S : hs_st w p W dc dm k D md u) (T : hs_st w p' W dc' (fun _ => 0) k D md' t)
    (H : ∀ (dm1 : Nat → Int32) (md1 : Int32) u' t', (dm = (fun _ => 0) → dm1 = (fun _ => 0) ∧ md1 = md) → hs_st w p W dc dm1 k D md1 u' → hs_st w p' W dc' (fun _ => 0) k D md' t' → post 1 (hs_j u' t')) : wpL_equal post (hs_j u t) := by
  have L : ∃ n, hs_ap2 (wL_equal_2 post n (nI 0)) (u, t) := by
    refine pk_loop (fun n i s => hs_ap2 (wL_equal_2 post n (nI i)) s) (fun _ s => ∃ (dm1 : Nat → Int32) (md1 : Int32), (dm = (fun _ => 0) → dm1 = (fun _ => 0) ∧ md1 = md) ∧ hs_st w p W dc dm1 k D md1 s.1 ∧ hs_st w p' W dc' (fun _ => 0) k D md' s.2) 32 0 (u, t) (by omega) ⟨dm, md, fun h => ⟨h, rfl⟩, S, T⟩ ?_ ?_
    · intro n s hs
      obtain ⟨⟨f0, f1, f2, a1, a2, a3, a4, a5, a6, a7, a8⟩, ⟨g0, g1, g2, b1, b2, b3, b4, b5, b6, b7, b8⟩⟩ := s
      obtain ⟨dm1, md1, hz, S1, T1⟩ := hs
      show wL_equal_2 post (n + 1) (nI 32) f0 f1 f2 a1 a2 a3 a4 a5 a6 a7 a8 g0 g1 g2 b1 b2 b3 b4 b5 b6 b7 b8
      exact pk_le 32 32 (fun _ => H dm1 md1 (f0, f1, f2, a1, a2, a3, a4, a5, a6, a7, a8) (g0, g1, g2, b1, b2, b3, b4, b5, b6, b7, b8) hz S1 T1) (fun z => absurd z (by omega))
    · intro n i s hi hs hw
      obtain ⟨⟨f0, f1, f2, a1, a2, a3, a4, a5, a6, a7, a8⟩, ⟨g0, g1, g2, b1, b2, b3, b4, b5, b6, b7, b8⟩⟩ := s
      obtain ⟨dm1, md1, hz, S1, T1⟩ := hs
      show wL_equal_2 post (n + 1) (nI i) f0 f1 f2 a1 a2 a3 a4 a5 a6 a7 a8 g0 g1 g2 b1 b2 b3 b4 b5 b6 b7 b8
      have hi4 : i / 4 < 8 := by omega
      have e3 : nI i &&& 3 = nI (i % 4) := pk_andN (by omega) 2 (by decide)
      refine pk_le 32 i (fun z => absurd z (by omega)) (fun _ => ?_)
      refine nm_r (e' := nI (i / 4)) (pk_shrN (by omega) _ 2 (by decide)) ?_
      rw [e3]
      refine hs_st_size hi4 S1 (hs_st_size hi4 T1 (br_t rfl ?_))
      refine hs_st_digest hi4 S1 (fun u' hu' => ?_)
      obtain ⟨h0, h1, h2, c1, c2, c3, c4, c5, c6, c7, c8⟩ := u'
      dsimp only
      refine hs_st_digest hi4 T1 (fun t' ht' => ?_)
      obtain ⟨k0, k1, k2, d1, d2, d3, d4, d5, d6, d7, d8⟩ := t'
      dsimp only
      refine br_t rfl ?_
      refine hs_st_read hi4 (by omega) hu' (fun dm2 md2 u2 hz2 hu2 => ?_)
      obtain ⟨i0, i1, i2, l1, l2, l3, l4, l5, l6, l7, l8⟩ := u2
      dsimp only
      refine hs_st_read hi4 (by omega) ht' (fun dm3 md3 t2 hz3 ht2 => ?_)
      obtain ⟨j0, j1, j2, m1, m2, m3, m4, m5, m6, m7, m8⟩ := t2
      dsimp only
      obtain ⟨hd3, hm3⟩ := hz3 rfl
      subst hd3
      subst hm3
      refine br_t rfl (nm_r (nI_1 i) (hw ((i0, i1, i2, l1, l2, l3, l4, l5, l6, l7, l8), (j0, j1, j2, m1, m2, m3, m4, m5, m6, m7, m8)) ⟨dm2, md2, fun h => ?_, hu2, ht2⟩))
      obtain ⟨y1, y2⟩ := hz h
      obtain ⟨y3, y4⟩ := hz2 (by rw [y1])
      exact ⟨y3.trans y1, y4.trans y2⟩
  obtain ⟨f0, f1, f2, a1, a2, a3, a4, a5, a6, a7, a8⟩ := u
  obtain ⟨g0, g1, g2, b1, b2, b3, b4, b5, b6, b7, b8⟩ := t
  exact L
theorem hs_law87 {post : Int32 → Prop} {L : Nat} {xs : Nat → Int32} {kc ks : Nat} (S : hs_st w p W dc (fun _ => 0) k D md u) (T : hs_st w p' W dc' (fun _ => 0) k D md' t) (H : post 1) : ∃ n, hs_ap2 (wL_law_87 post L xs md kc ks n (nI 0)) (u, t) := by
  refine pk_loop (fun n i s => hs_ap2 (wL_law_87 post L xs md kc ks n (nI i)) s) (fun _ s => hs_st w p W dc (fun _ => 0) k D md s.1 ∧ hs_st w p' W dc' (fun _ => 0) k D md' s.2) 5 0 (u, t) (by omega) ⟨S, T⟩ ?_ ?_
  · intro n s hs
    obtain ⟨⟨f0, f1, f2, a1, a2, a3, a4, a5, a6, a7, a8⟩, ⟨g0, g1, g2, b1, b2, b3, b4, b5, b6, b7, b8⟩⟩ := s
    obtain ⟨S1, T1⟩ := hs
    show wL_law_87 post L xs md kc ks (n + 1) (nI 5) f0 f1 f2 a1 a2 a3 a4 a5 a6 a7 a8 g0 g1 g2 b1 b2 b3 b4 b5 b6 b7 b8
    refine pk_le 5 5 (fun _ => ?_) (fun z => absurd z (by omega))
    unfold wpX_healed
    exact br_t S1.2.2.2.2.2.1 H
  · intro n i s hi hs hw
    obtain ⟨⟨f0, f1, f2, a1, a2, a3, a4, a5, a6, a7, a8⟩, ⟨g0, g1, g2, b1, b2, b3, b4, b5, b6, b7, b8⟩⟩ := s
    obtain ⟨S1, T1⟩ := hs
    show wL_law_87 post L xs md kc ks (n + 1) (nI i) f0 f1 f2 a1 a2 a3 a4 a5 a6 a7 a8 g0 g1 g2 b1 b2 b3 b4 b5 b6 b7 b8
    refine pk_le 5 i (fun z => absurd z (by omega)) (fun _ => ?_)
    refine hs_st_lose (by omega) S1 (fun h => absurd ⟨hi, fun _ _ _ => rfl⟩ h) (fun _ _ u' hu' => ?_)
    obtain ⟨h0, h1, h2, c1, c2, c3, c4, c5, c6, c7, c8⟩ := u'
    refine br_t rfl ?_
    refine hs_st_sound hu' (fun u2 hu2 => ?_)
    obtain ⟨i0, i1, i2, l1, l2, l3, l4, l5, l6, l7, l8⟩ := u2
    refine br_f (by decide) ?_
    refine hs_equal hu2 T1 (fun dm1 md1 u3 t3 hz hu3 ht3 => ?_)
    obtain ⟨q0, q1, q2, r1, r2, r3, r4, r5, r6, r7, r8⟩ := u3
    obtain ⟨s0, s1, s2, t1, t2, t3, t4, t5, t6, t7, t8⟩ := t3
    obtain ⟨y1, y2⟩ := hz rfl
    subst y1
    subst y2
    exact br_f (by decide) (nm_r (nI_1 i) (hw ((q0, q1, q2, r1, r2, r3, r4, r5, r6, r7, r8), (s0, s1, s2, t1, t2, t3, t4, t5, t6, t7, t8)) ⟨hu3, ht3⟩))
end
theorem hs_law18 {post : Int32 → Prop} {L : Nat} {xs : Nat → Int32} {kc ks : Nat} {u t : St1} (hL : L ≤ 260) (R : hs_R u t) (H : post 1) : ∃ n, hs_ap2 (wL_law_18 post L xs kc ks n (nI (2 * 0))) (u, t) := by
  refine pk_loop (fun n i s => hs_ap2 (wL_law_18 post L xs kc ks n (nI (2 * i))) s) (fun _ s => hs_R s.1 s.2) (L / 2) 0 (u, t) (by omega) R ?_ ?_
  · intro n s hs
    obtain ⟨⟨f0, f1, f2, a1, a2, a3, a4, a5, a6, a7, a8⟩, ⟨g0, g1, g2, b1, b2, b3, b4, b5, b6, b7, b8⟩⟩ := s
    show wL_law_18 post L xs kc ks (n + 1) (nI (2 * (L / 2))) f0 f1 f2 a1 a2 a3 a4 a5 a6 a7 a8 g0 g1 g2 b1 b2 b3 b4 b5 b6 b7 b8
    refine pk_le L (2 * (L / 2) + 1) (fun _ => ?_) (fun z => absurd z (by omega)) rfl (nI_1 _)
    obtain ⟨w, W, k, D, ⟨p, dc, dm, md, S⟩, ⟨p', dc', md', T⟩⟩ := hs
    refine hs_equal S T (fun dm1 md1 u1 t1 _ hu1 ht1 => ?_)
    obtain ⟨h0, h1, h2, c1, c2, c3, c4, c5, c6, c7, c8⟩ := u1
    obtain ⟨k0, k1, k2, d1, d2, d3, d4, d5, d6, d7, d8⟩ := t1
    refine br_f (by decide) ?_
    refine hs_st_scrub hu1 (fun md2 u2 _ hu2 => ?_)
    obtain ⟨i0, i1, i2, l1, l2, l3, l4, l5, l6, l7, l8⟩ := u2
    dsimp only
    refine hs_st_scrub hu2 (fun md3 u3 hm3 hu3 => ?_)
    obtain ⟨q0, q1, q2, r1, r2, r3, r4, r5, r6, r7, r8⟩ := u3
    dsimp only
    have hm3 := hm3 (fun _ _ _ => rfl)
    subst hm3
    unfold wpX_healed
    dsimp only
    refine br_t (Int32.sub_self _) ?_
    refine hs_st_sound hu3 (fun u4 hu4 => ?_)
    obtain ⟨v0, v1, v2, y1, y2, y3, y4, y5, y6, y7, y8⟩ := u4
    refine br_f (by decide) ?_
    have hmd : q2 = md3 := hu3.2.2.2.2.2.1
    rw [hmd]
    exact hs_law87 hu4 ht1 H
  · intro n i s hi hs hw
    obtain ⟨⟨f0, f1, f2, a1, a2, a3, a4, a5, a6, a7, a8⟩, ⟨g0, g1, g2, b1, b2, b3, b4, b5, b6, b7, b8⟩⟩ := s
    show wL_law_18 post L xs kc ks (n + 1) (nI (2 * i)) f0 f1 f2 a1 a2 a3 a4 a5 a6 a7 a8 g0 g1 g2 b1 b2 b3 b4 b5 b6 b7 b8
    refine pk_le L (2 * i + 1) (fun z => absurd z (by omega)) (fun _ => ⟨pk_in (2 * i) L (by omega), pk_in (2 * i + 1) L (by omega) (nI_1 _), ?_⟩) rfl (nI_1 _)
    refine hs_turn _ _ hs (fun u' t' h' => ?_)
    obtain ⟨h0, h1, h2, c1, c2, c3, c4, c5, c6, c7, c8⟩ := u'
    obtain ⟨k0, k1, k2, d1, d2, d3, d4, d5, d6, d7, d8⟩ := t'
    refine nm_r (e' := nI (2 * (i + 1))) ?_ (hw ((h0, h1, h2, c1, c2, c3, c4, c5, c6, c7, c8), (k0, k1, k2, d1, d2, d3, d4, d5, d6, d7, d8)) h')
    show nI (2 * i) + nI 2 = nI (2 * (i + 1))
    rw [nI_add]
    rfl
theorem hs_init {post : St1 → Prop} {f0 f1 f2 : Int32} (H : post (f0, f1, f2, (fun _ => 0), (fun _ => 0), (fun _ => 0), (fun _ => 0), (fun _ => 0), (fun _ => 0), (fun _ => 0), (fun _ => 0))) : wpX_init post 8 189 (f0, f1, f2) := by
  unfold wpX_init
  exact ⟨by omega, by omega, by omega, by omega, by omega, by omega, by omega, by omega, by omega, by omega, by omega, by omega, by omega, by omega, by omega, by omega, H⟩
theorem hs_st0 : hs_st (fun _ => 0) (fun _ _ => 0) (fun _ _ => 0) (fun _ => 0) (fun _ => 0) 0 (fun _ => 0) 0 ((0 : Int32), (0 : Int32), (0 : Int32), (fun _ => 0), (fun _ => 0), (fun _ => 0), (fun _ => 0), (fun _ => 0), (fun _ => 0), (fun _ => 0), (fun _ => 0)) := by
  have no : ∀ e : Nat, ¬ 0 < (fun _ : Nat => (0 : Nat)) e := fun _ => Nat.lt_irrefl 0
  exact ⟨⟨fun e he => ⟨Nat.zero_le 4, rfl⟩, fun e c he hw => absurd hw (no e), fun e c c' he hw => absurd hw (no e), fun e e' c c' he he' hw => absurd hw (no e), fun j hj h => absurd rfl h⟩, fun e he hw => absurd hw (no e), ⟨0, by omega, rfl⟩, by omega, rfl, rfl, fun j hj => absurd hj (by omega)⟩
theorem i_vc (xs : Nat → Int32) (L : Nat) (hL : L ≤ 260) : wpL_law (fun r => r = 1) L xs := by
  unfold wpL_law
  refine ⟨8, 189, by omega, by omega, hs_init ⟨by omega, by omega, 8, 189, by omega, by omega, hs_init ?_⟩⟩
  exact hs_law18 hL ⟨_, _, _, _, ⟨_, _, _, _, hs_st0⟩, ⟨_, _, _, hs_st0⟩⟩ rfl
end
